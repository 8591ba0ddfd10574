section
-- ===== PART A: goes FIRST, ahead of the names: the tables' words, and 'selects' of the private methods out of them =====
/-- a private method of a class that the tables say can be made, by its rows of tables_1 -/
def lw_okq (q : MethodName × Nat) : Prop := (q.1.cls ≠ "java/lang/invoke/MethodHandle" ∧ q.1.cls ≠ "java/lang/invoke/VarHandle") ∧ Cond.instantiable q.1.cls q.2 ∈ tables_1 ∧ Cond.privateMethod q.1 ∈ tables_1 ∧ Cond.instanceMethod q.1 ∈ tables_1
set_option maxRecDepth 100000
theorem lw_p0 : lw_okq (⟨"SplitDirectory", "bucketOf", "(I)I"⟩, 9) := ⟨⟨by decide +kernel, by decide +kernel⟩, List.mem_of_getElem? (i := 4) rfl, List.mem_of_getElem? (i := 51) rfl, List.mem_of_getElem? (i := 52) rfl⟩
theorem lw_p1 : lw_okq (⟨"SplitDirectory", "find", "(II)I"⟩, 9) := ⟨⟨by decide +kernel, by decide +kernel⟩, List.mem_of_getElem? (i := 4) rfl, List.mem_of_getElem? (i := 55) rfl, List.mem_of_getElem? (i := 56) rfl⟩
theorem lw_p2 : lw_okq (⟨"SplitDirectory", "insert", "(II)V"⟩, 9) := ⟨⟨by decide +kernel, by decide +kernel⟩, List.mem_of_getElem? (i := 4) rfl, List.mem_of_getElem? (i := 59) rfl, List.mem_of_getElem? (i := 60) rfl⟩
theorem lw_p3 : lw_okq (⟨"SplitDirectory", "append", "(III)V"⟩, 9) := ⟨⟨by decide +kernel, by decide +kernel⟩, List.mem_of_getElem? (i := 4) rfl, List.mem_of_getElem? (i := 63) rfl, List.mem_of_getElem? (i := 64) rfl⟩
theorem lw_p4 : lw_okq (⟨"SplitDirectory", "split", "(II)V"⟩, 9) := ⟨⟨by decide +kernel, by decide +kernel⟩, List.mem_of_getElem? (i := 4) rfl, List.mem_of_getElem? (i := 67) rfl, List.mem_of_getElem? (i := 68) rfl⟩
theorem lw_p5 : lw_okq (⟨"SplitDirectory", "newBucket", "()I"⟩, 9) := ⟨⟨by decide +kernel, by decide +kernel⟩, List.mem_of_getElem? (i := 4) rfl, List.mem_of_getElem? (i := 71) rfl, List.mem_of_getElem? (i := 72) rfl⟩
theorem lw_p6 : lw_okq (⟨"SplitDirectory", "delete", "(III)V"⟩, 9) := ⟨⟨by decide +kernel, by decide +kernel⟩, List.mem_of_getElem? (i := 4) rfl, List.mem_of_getElem? (i := 83) rfl, List.mem_of_getElem? (i := 84) rfl⟩
theorem lw_p7 : lw_okq (⟨"SplitDirectory", "joinAt", "(I)Z"⟩, 9) := ⟨⟨by decide +kernel, by decide +kernel⟩, List.mem_of_getElem? (i := 4) rfl, List.mem_of_getElem? (i := 87) rfl, List.mem_of_getElem? (i := 88) rfl⟩
theorem lw_p8 : lw_okq (⟨"SplitDirectoryModel", "key", "(I)Z"⟩, 3) := ⟨⟨by decide +kernel, by decide +kernel⟩, List.mem_of_getElem? (i := 138) rfl, List.mem_of_getElem? (i := 158) rfl, List.mem_of_getElem? (i := 159) rfl⟩
theorem lw_p9 : lw_okq (⟨"SplitDirectoryModel", "count", "()V"⟩, 3) := ⟨⟨by decide +kernel, by decide +kernel⟩, List.mem_of_getElem? (i := 138) rfl, List.mem_of_getElem? (i := 174) rfl, List.mem_of_getElem? (i := 175) rfl⟩
theorem lw_p10 : lw_okq (⟨"SplitDirectoryModel", "ending", "(II)I"⟩, 3) := ⟨⟨by decide +kernel, by decide +kernel⟩, List.mem_of_getElem? (i := 138) rfl, List.mem_of_getElem? (i := 178) rfl, List.mem_of_getElem? (i := 179) rfl⟩
theorem lw_p11 : lw_okq (⟨"SplitDirectoryModel", "isBucket", "(II)Z"⟩, 3) := ⟨⟨by decide +kernel, by decide +kernel⟩, List.mem_of_getElem? (i := 138) rfl, List.mem_of_getElem? (i := 182) rfl, List.mem_of_getElem? (i := 183) rfl⟩
def lw_privs_1 : List (MethodName × Nat) := [(⟨"SplitDirectory", "bucketOf", "(I)I"⟩, 9), (⟨"SplitDirectory", "find", "(II)I"⟩, 9), (⟨"SplitDirectory", "insert", "(II)V"⟩, 9), (⟨"SplitDirectory", "append", "(III)V"⟩, 9), (⟨"SplitDirectory", "split", "(II)V"⟩, 9), (⟨"SplitDirectory", "newBucket", "()I"⟩, 9), (⟨"SplitDirectory", "delete", "(III)V"⟩, 9), (⟨"SplitDirectory", "joinAt", "(I)Z"⟩, 9), (⟨"SplitDirectoryModel", "key", "(I)Z"⟩, 3), (⟨"SplitDirectoryModel", "count", "()V"⟩, 3), (⟨"SplitDirectoryModel", "ending", "(II)I"⟩, 3), (⟨"SplitDirectoryModel", "isBucket", "(II)Z"⟩, 3)]
theorem lw_r1 : ∀ q ∈ lw_privs_1, lw_okq q := List.forall_mem_cons.mpr ⟨lw_p0, List.forall_mem_cons.mpr ⟨lw_p1, List.forall_mem_cons.mpr ⟨lw_p2, List.forall_mem_cons.mpr ⟨lw_p3, List.forall_mem_cons.mpr ⟨lw_p4, List.forall_mem_cons.mpr ⟨lw_p5, List.forall_mem_cons.mpr ⟨lw_p6, List.forall_mem_cons.mpr ⟨lw_p7, List.forall_mem_cons.mpr ⟨lw_p8, List.forall_mem_cons.mpr ⟨lw_p9, List.forall_mem_cons.mpr ⟨lw_p10, List.forall_mem_cons.mpr ⟨lw_p11, fun _ h => absurd h List.not_mem_nil⟩⟩⟩⟩⟩⟩⟩⟩⟩⟩⟩⟩
def lw_privs : List (MethodName × Nat) := lw_privs_1
def lw_tbl : List Cond := k2_sels lw_privs ++ tables_1
theorem lw_privs_ok : ∀ q ∈ lw_privs, lw_okq q := lw_r1
-- ===== ONE list of words for every method: the tables' words that hold all through a run =====
def lw_all : List Cond := lw_tbl.filter goodWord
/-- a word of the tables by its place: claim/WORDS.tsv -/
theorem lw_w {w : Cond} (i : Nat) (h : lw_tbl[i]? = some w) (g : goodWord w = true) : w ∈ lw_all := List.mem_filter.mpr ⟨List.mem_of_getElem? h, g⟩
theorem lw_all_tbl {w : Cond} (h : w ∈ lw_all) : w ∈ lw_tbl := (List.mem_filter.mp h).1
theorem lw_self : GoodIn lw_all lw_all := fun w h => ⟨h, good_of_word (List.mem_filter.mp h).2⟩
/-- a class's field words, by their places -/
theorem lw_in (ws : List Cond) (ps : List Nat) (hp : ws = ps.filterMap (fun i => lw_tbl[i]?)) (hg : ws.all goodWord = true) : ∀ w ∈ ws, w ∈ lw_all := by
  intro w h
  have h1 := List.all_eq_true.mp hg w h
  rw [hp] at h
  obtain ⟨i, -, hi⟩ := List.mem_filterMap.mp h
  exact lw_w i hi h1
/-- the words of a contract for the method y with code b, L locals, answer r -/
abbrev ws_ (y : MethodName) (b : ByteArray) (L : Nat) (r : Option FieldType) : List Cond := Cond.code y b L r :: lw_all
theorem lw_meth {y : MethodName} {b : ByteArray} {L : Nat} {r : Option FieldType} (h : Cond.code y b L r ∈ lw_all) : GoodIn lw_all (ws_ y b L r) := by
  intro w hw
  rcases List.mem_cons.mp hw with e | e
  · rw [e]
    exact lw_self _ h
  · exact lw_self _ e
theorem lw_app {a c : List Cond} (ha : ∀ w ∈ a, w ∈ lw_all) (hc : GoodIn lw_all c) : GoodIn lw_all (a ++ c) := by
  intro w hw
  rcases List.mem_append.mp hw with e | e
  · exact lw_self w (ha w e)
  · exact hc w e
/-- what a call through an object asks: cwV n hts (lw_V ..) -/
theorem lw_V {own : String} {idx : Nat} {C : String} {y : MethodName} {b : ByteArray} {L : Nat} {r : Option FieldType} (h1 : Cond.methodLink own idx y ∈ lw_all) (h2 : Cond.instanceMethod y ∈ lw_all) (h3 : Cond.selects C y y ∈ lw_all) (h4 : Cond.initialized C ∈ lw_all) (h5 : Cond.code y b L r ∈ lw_all) : GoodIn lw_all (wsV own idx C y (ws_ y b L r)) := by
  refine lw_app ?_ (lw_meth h5)
  intro w hw
  simp only [List.mem_cons, List.not_mem_nil, or_false] at hw
  rcases hw with e | e | e | e
  · rw [e]; exact h1
  · rw [e]; exact h2
  · rw [e]; exact h3
  · rw [e]; exact h4
/-- what a static call asks: va_cwS n hts (lw_S ..) -/
theorem lw_S {own : String} {idx : Nat} {y : MethodName} {b : ByteArray} {L : Nat} {r : Option FieldType} (h1 : Cond.methodLink own idx y ∈ lw_all) (h2 : Cond.static y ∈ lw_all) (h3 : Cond.initialized y.cls ∈ lw_all) (h4 : Cond.code y b L r ∈ lw_all) : GoodIn lw_all (va_wsS own idx y (ws_ y b L r)) := by
  refine lw_app ?_ (lw_meth h4)
  intro w hw
  simp only [List.mem_cons, List.not_mem_nil, or_false] at hw
  rcases hw with e | e | e
  · rw [e]; exact h1
  · rw [e]; exact h2
  · rw [e]; exact h3
/-- the words of a contract for a method WITH HANDLERS (hh: its table) -/
abbrev wsW_ (y : MethodName) (b : ByteArray) (L : Nat) (r : Option FieldType) (hh : List (Nat × Nat × Nat × Nat)) : List Cond := Cond.codeWith y b L r hh :: lw_all
theorem lw_methW {y : MethodName} {b : ByteArray} {L : Nat} {r : Option FieldType} {hh : List (Nat × Nat × Nat × Nat)} (h : Cond.codeWith y b L r hh ∈ lw_all) : GoodIn lw_all (wsW_ y b L r hh) := by
  intro w hw
  rcases List.mem_cons.mp hw with e | e
  · rw [e]
    exact lw_self _ h
  · exact lw_self _ e
/-- any list of words by their places (lw_in), good -/
theorem lw_good {ws : List Cond} (h : ∀ w ∈ ws, w ∈ lw_all) : GoodIn lw_all ws := fun w hw => lw_self w (h w hw)
/-- what a call of a method with handlers asks: vx_cwVW n hts (lw_VW ..), vx_cwSW n hts (lw_SW ..) -/
theorem lw_VW {own : String} {idx : Nat} {C : String} {y : MethodName} {b : ByteArray} {L : Nat} {r : Option FieldType} {hh : List (Nat × Nat × Nat × Nat)} (h1 : Cond.methodLink own idx y ∈ lw_all) (h2 : Cond.instanceMethod y ∈ lw_all) (h3 : Cond.selects C y y ∈ lw_all) (h4 : Cond.initialized C ∈ lw_all) (h5 : Cond.codeWith y b L r hh ∈ lw_all) : GoodIn lw_all (wsV own idx C y (wsW_ y b L r hh)) := by
  refine lw_app ?_ (lw_methW h5)
  intro w hw
  simp only [List.mem_cons, List.not_mem_nil, or_false] at hw
  rcases hw with e | e | e | e
  · rw [e]; exact h1
  · rw [e]; exact h2
  · rw [e]; exact h3
  · rw [e]; exact h4
theorem lw_SW {own : String} {idx : Nat} {y : MethodName} {b : ByteArray} {L : Nat} {r : Option FieldType} {hh : List (Nat × Nat × Nat × Nat)} (h1 : Cond.methodLink own idx y ∈ lw_all) (h2 : Cond.static y ∈ lw_all) (h3 : Cond.initialized y.cls ∈ lw_all) (h4 : Cond.codeWith y b L r hh ∈ lw_all) : GoodIn lw_all (va_wsS own idx y (wsW_ y b L r hh)) := by
  refine lw_app ?_ (lw_methW h4)
  intro w hw
  simp only [List.mem_cons, List.not_mem_nil, or_false] at hw
  rcases hw with e | e | e
  · rw [e]; exact h1
  · rw [e]; exact h2
  · rw [e]; exact h3
/-- a word by its place in its run of the tables -/
theorem lw_at {r : List Cond} (hr : ∀ w ∈ r, w ∈ lw_tbl) {w : Cond} (i : Nat) (h : r[i]? = some w) : w ∈ lw_tbl := hr w (List.mem_of_getElem? h)
theorem lw_g {w : Cond} (h : w ∈ lw_tbl) (g : goodWord w = true) : w ∈ lw_all := List.mem_filter.mpr ⟨h, g⟩
theorem lw_ms : ∀ w ∈ k2_sels lw_privs, w ∈ lw_tbl := fun w h => show w ∈ k2_sels lw_privs ++ tables_1 from List.mem_append_left _ h
theorem lw_m0 : ∀ w ∈ tables_1, w ∈ lw_tbl := fun w h => show w ∈ k2_sels lw_privs ++ tables_1 from List.mem_append_right (k2_sels lw_privs) h
theorem qs0 : (Cond.selects "SplitDirectory" ⟨"SplitDirectory", "bucketOf", "(I)I"⟩ ⟨"SplitDirectory", "bucketOf", "(I)I"⟩) ∈ lw_all := lw_g (lw_at lw_ms 0 rfl) rfl
theorem qs1 : (Cond.selects "SplitDirectory" ⟨"SplitDirectory", "find", "(II)I"⟩ ⟨"SplitDirectory", "find", "(II)I"⟩) ∈ lw_all := lw_g (lw_at lw_ms 1 rfl) rfl
theorem qs2 : (Cond.selects "SplitDirectory" ⟨"SplitDirectory", "insert", "(II)V"⟩ ⟨"SplitDirectory", "insert", "(II)V"⟩) ∈ lw_all := lw_g (lw_at lw_ms 2 rfl) rfl
theorem qs3 : (Cond.selects "SplitDirectory" ⟨"SplitDirectory", "append", "(III)V"⟩ ⟨"SplitDirectory", "append", "(III)V"⟩) ∈ lw_all := lw_g (lw_at lw_ms 3 rfl) rfl
theorem qs4 : (Cond.selects "SplitDirectory" ⟨"SplitDirectory", "split", "(II)V"⟩ ⟨"SplitDirectory", "split", "(II)V"⟩) ∈ lw_all := lw_g (lw_at lw_ms 4 rfl) rfl
theorem qs5 : (Cond.selects "SplitDirectory" ⟨"SplitDirectory", "newBucket", "()I"⟩ ⟨"SplitDirectory", "newBucket", "()I"⟩) ∈ lw_all := lw_g (lw_at lw_ms 5 rfl) rfl
theorem qs6 : (Cond.selects "SplitDirectory" ⟨"SplitDirectory", "delete", "(III)V"⟩ ⟨"SplitDirectory", "delete", "(III)V"⟩) ∈ lw_all := lw_g (lw_at lw_ms 6 rfl) rfl
theorem qs7 : (Cond.selects "SplitDirectory" ⟨"SplitDirectory", "joinAt", "(I)Z"⟩ ⟨"SplitDirectory", "joinAt", "(I)Z"⟩) ∈ lw_all := lw_g (lw_at lw_ms 7 rfl) rfl
theorem qs8 : (Cond.selects "SplitDirectoryModel" ⟨"SplitDirectoryModel", "key", "(I)Z"⟩ ⟨"SplitDirectoryModel", "key", "(I)Z"⟩) ∈ lw_all := lw_g (lw_at lw_ms 8 rfl) rfl
theorem qs9 : (Cond.selects "SplitDirectoryModel" ⟨"SplitDirectoryModel", "count", "()V"⟩ ⟨"SplitDirectoryModel", "count", "()V"⟩) ∈ lw_all := lw_g (lw_at lw_ms 9 rfl) rfl
theorem qs10 : (Cond.selects "SplitDirectoryModel" ⟨"SplitDirectoryModel", "ending", "(II)I"⟩ ⟨"SplitDirectoryModel", "ending", "(II)I"⟩) ∈ lw_all := lw_g (lw_at lw_ms 10 rfl) rfl
theorem qs11 : (Cond.selects "SplitDirectoryModel" ⟨"SplitDirectoryModel", "isBucket", "(II)Z"⟩ ⟨"SplitDirectoryModel", "isBucket", "(II)Z"⟩) ∈ lw_all := lw_g (lw_at lw_ms 11 rfl) rfl
end
section
/-! SplitDirectory -/
set_option maxRecDepth 100000
def RX0 : String := "SplitDirectory"
def TX0 : u_T := fun k => match k with
  | 0 => ("SplitDirectory", "depth", "I", false)
  | 1 => ("SplitDirectory", "directory", "[B", true)
  | 2 => ("SplitDirectory", "used", "[Z", true)
  | 3 => ("SplitDirectory", "depths", "[B", true)
  | 4 => ("SplitDirectory", "loads", "[B", true)
  | 5 => ("SplitDirectory", "keys", "[S", true)
  | 6 => ("SplitDirectory", "values", "[I", true)
  | 7 => ("SplitDirectory", "bucketCount", "I", false)
  | _ => ("SplitDirectory", "keyCount", "I", false)
def tyX0 : Nat → FieldType := fun k => match k with
  | 0 => .int
  | 1 => .array .byte
  | 2 => .array .boolean
  | 3 => .array .byte
  | 4 => .array .byte
  | 5 => .array .short
  | 6 => .array .int
  | 7 => .int
  | _ => .int
abbrev wsX00 : List Cond := u_ws RX0 TX0 9
theorem nmX0 : ∀ a, a < 9 → ∀ b, b < 9 → a ≠ b → (TX0 a).2.1 ≠ (TX0 b).2.1 := by decide +kernel
theorem tyX0_ok : ∀ k, k < 9 → parseFieldDescriptor (TX0 k).2.2.1 = some (tyX0 k) := by decide +kernel
abbrev cX0_init : ByteArray := prog_1_method_1_code
def yX0_init : MethodName := ⟨RX0, "<init>", "()V"⟩
theorem dX0_init_0 : decode cX0_init 0 = .ok (.aload_n 0, 1) := by decide +kernel
theorem dX0_init_1 : decode cX0_init 1 = .ok (.invokespecial 1, 3) := by decide +kernel
theorem dX0_init_4 : decode cX0_init 4 = .ok (.aload_n 0, 1) := by decide +kernel
theorem dX0_init_5 : decode cX0_init 5 = .ok (.bipush 64, 2) := by decide +kernel
theorem dX0_init_7 : decode cX0_init 7 = .ok (.newarray .byte, 2) := by decide +kernel
theorem dX0_init_9 : decode cX0_init 9 = .ok (.putfield 7, 3) := by decide +kernel
theorem dX0_init_12 : decode cX0_init 12 = .ok (.aload_n 0, 1) := by decide +kernel
theorem dX0_init_13 : decode cX0_init 13 = .ok (.bipush 65, 2) := by decide +kernel
theorem dX0_init_15 : decode cX0_init 15 = .ok (.newarray .boolean, 2) := by decide +kernel
theorem dX0_init_17 : decode cX0_init 17 = .ok (.putfield 13, 3) := by decide +kernel
theorem dX0_init_20 : decode cX0_init 20 = .ok (.aload_n 0, 1) := by decide +kernel
theorem dX0_init_21 : decode cX0_init 21 = .ok (.bipush 65, 2) := by decide +kernel
theorem dX0_init_23 : decode cX0_init 23 = .ok (.newarray .byte, 2) := by decide +kernel
theorem dX0_init_25 : decode cX0_init 25 = .ok (.putfield 17, 3) := by decide +kernel
theorem dX0_init_28 : decode cX0_init 28 = .ok (.aload_n 0, 1) := by decide +kernel
theorem dX0_init_29 : decode cX0_init 29 = .ok (.bipush 65, 2) := by decide +kernel
theorem dX0_init_31 : decode cX0_init 31 = .ok (.newarray .byte, 2) := by decide +kernel
theorem dX0_init_33 : decode cX0_init 33 = .ok (.putfield 20, 3) := by decide +kernel
theorem dX0_init_36 : decode cX0_init 36 = .ok (.aload_n 0, 1) := by decide +kernel
theorem dX0_init_37 : decode cX0_init 37 = .ok (.sipush 325, 3) := by decide +kernel
theorem dX0_init_40 : decode cX0_init 40 = .ok (.newarray .short, 2) := by decide +kernel
theorem dX0_init_42 : decode cX0_init 42 = .ok (.putfield 23, 3) := by decide +kernel
theorem dX0_init_45 : decode cX0_init 45 = .ok (.aload_n 0, 1) := by decide +kernel
theorem dX0_init_46 : decode cX0_init 46 = .ok (.sipush 325, 3) := by decide +kernel
theorem dX0_init_49 : decode cX0_init 49 = .ok (.newarray .int, 2) := by decide +kernel
theorem dX0_init_51 : decode cX0_init 51 = .ok (.putfield 27, 3) := by decide +kernel
theorem dX0_init_54 : decode cX0_init 54 = .ok (.aload_n 0, 1) := by decide +kernel
theorem dX0_init_55 : decode cX0_init 55 = .ok (.getfield 13, 3) := by decide +kernel
theorem dX0_init_58 : decode cX0_init 58 = .ok (.iconst 0, 1) := by decide +kernel
theorem dX0_init_59 : decode cX0_init 59 = .ok (.iconst 1, 1) := by decide +kernel
theorem dX0_init_60 : decode cX0_init 60 = .ok (.bastore, 1) := by decide +kernel
theorem dX0_init_61 : decode cX0_init 61 = .ok (.aload_n 0, 1) := by decide +kernel
theorem dX0_init_62 : decode cX0_init 62 = .ok (.iconst 1, 1) := by decide +kernel
theorem dX0_init_63 : decode cX0_init 63 = .ok (.putfield 31, 3) := by decide +kernel
theorem dX0_init_66 : decode cX0_init 66 = .ok (.return_, 1) := by decide +kernel
abbrev cX0_put : ByteArray := prog_1_method_11_code
def yX0_put : MethodName := ⟨RX0, "put", "(II)I"⟩
theorem dX0_put_0 : decode cX0_put 0 = .ok (.iload_n 1, 1) := by decide +kernel
theorem dX0_put_1 : decode cX0_put 1 = .ok (.invokestatic 64, 3) := by decide +kernel
theorem dX0_put_4 : decode cX0_put 4 = .ok (.ifCond .ne 5, 3) := by decide +kernel
theorem dX0_put_7 : decode cX0_put 7 = .ok (.iconst (-1), 1) := by decide +kernel
theorem dX0_put_8 : decode cX0_put 8 = .ok (.ireturn, 1) := by decide +kernel
theorem dX0_put_9 : decode cX0_put 9 = .ok (.aload_n 0, 1) := by decide +kernel
theorem dX0_put_10 : decode cX0_put 10 = .ok (.iload_n 1, 1) := by decide +kernel
theorem dX0_put_11 : decode cX0_put 11 = .ok (.invokevirtual 46, 3) := by decide +kernel
theorem dX0_put_14 : decode cX0_put 14 = .ok (.istore_n 3, 1) := by decide +kernel
theorem dX0_put_15 : decode cX0_put 15 = .ok (.aload_n 0, 1) := by decide +kernel
theorem dX0_put_16 : decode cX0_put 16 = .ok (.iload_n 3, 1) := by decide +kernel
theorem dX0_put_17 : decode cX0_put 17 = .ok (.iload_n 1, 1) := by decide +kernel
theorem dX0_put_18 : decode cX0_put 18 = .ok (.invokevirtual 67, 3) := by decide +kernel
theorem dX0_put_21 : decode cX0_put 21 = .ok (.istore 4, 2) := by decide +kernel
theorem dX0_put_23 : decode cX0_put 23 = .ok (.iload 4, 2) := by decide +kernel
theorem dX0_put_25 : decode cX0_put 25 = .ok (.ifCond .lt 20, 3) := by decide +kernel
theorem dX0_put_28 : decode cX0_put 28 = .ok (.aload_n 0, 1) := by decide +kernel
theorem dX0_put_29 : decode cX0_put 29 = .ok (.getfield 27, 3) := by decide +kernel
theorem dX0_put_32 : decode cX0_put 32 = .ok (.iload_n 3, 1) := by decide +kernel
theorem dX0_put_33 : decode cX0_put 33 = .ok (.iconst 5, 1) := by decide +kernel
theorem dX0_put_34 : decode cX0_put 34 = .ok (.imul, 1) := by decide +kernel
theorem dX0_put_35 : decode cX0_put 35 = .ok (.iload 4, 2) := by decide +kernel
theorem dX0_put_37 : decode cX0_put 37 = .ok (.iadd, 1) := by decide +kernel
theorem dX0_put_38 : decode cX0_put 38 = .ok (.iload_n 2, 1) := by decide +kernel
theorem dX0_put_39 : decode cX0_put 39 = .ok (.iastore, 1) := by decide +kernel
theorem dX0_put_40 : decode cX0_put 40 = .ok (.aload_n 0, 1) := by decide +kernel
theorem dX0_put_41 : decode cX0_put 41 = .ok (.getfield 31, 3) := by decide +kernel
theorem dX0_put_44 : decode cX0_put 44 = .ok (.ireturn, 1) := by decide +kernel
theorem dX0_put_45 : decode cX0_put 45 = .ok (.aload_n 0, 1) := by decide +kernel
theorem dX0_put_46 : decode cX0_put 46 = .ok (.getfield 50, 3) := by decide +kernel
theorem dX0_put_49 : decode cX0_put 49 = .ok (.bipush 40, 2) := by decide +kernel
theorem dX0_put_51 : decode cX0_put 51 = .ok (.if_icmp .lt 6, 3) := by decide +kernel
theorem dX0_put_54 : decode cX0_put 54 = .ok (.bipush (-2), 2) := by decide +kernel
theorem dX0_put_56 : decode cX0_put 56 = .ok (.ireturn, 1) := by decide +kernel
theorem dX0_put_57 : decode cX0_put 57 = .ok (.aload_n 0, 1) := by decide +kernel
theorem dX0_put_58 : decode cX0_put 58 = .ok (.iload_n 1, 1) := by decide +kernel
theorem dX0_put_59 : decode cX0_put 59 = .ok (.iload_n 2, 1) := by decide +kernel
theorem dX0_put_60 : decode cX0_put 60 = .ok (.invokevirtual 71, 3) := by decide +kernel
theorem dX0_put_63 : decode cX0_put 63 = .ok (.aload_n 0, 1) := by decide +kernel
theorem dX0_put_64 : decode cX0_put 64 = .ok (.getfield 31, 3) := by decide +kernel
theorem dX0_put_67 : decode cX0_put 67 = .ok (.ireturn, 1) := by decide +kernel
abbrev cX0_isKey : ByteArray := prog_1_method_2_code
def yX0_isKey : MethodName := ⟨RX0, "isKey", "(I)Z"⟩
theorem dX0_isKey_0 : decode cX0_isKey 0 = .ok (.iload_n 0, 1) := by decide +kernel
theorem dX0_isKey_1 : decode cX0_isKey 1 = .ok (.ifCond .lt 14, 3) := by decide +kernel
theorem dX0_isKey_4 : decode cX0_isKey 4 = .ok (.iload_n 0, 1) := by decide +kernel
theorem dX0_isKey_5 : decode cX0_isKey 5 = .ok (.sipush 256, 3) := by decide +kernel
theorem dX0_isKey_8 : decode cX0_isKey 8 = .ok (.if_icmp .ge 7, 3) := by decide +kernel
theorem dX0_isKey_11 : decode cX0_isKey 11 = .ok (.iconst 1, 1) := by decide +kernel
theorem dX0_isKey_12 : decode cX0_isKey 12 = .ok (.goto 4, 3) := by decide +kernel
theorem dX0_isKey_15 : decode cX0_isKey 15 = .ok (.iconst 0, 1) := by decide +kernel
theorem dX0_isKey_16 : decode cX0_isKey 16 = .ok (.ireturn, 1) := by decide +kernel
abbrev cX0_bucketOf : ByteArray := prog_1_method_3_code
def yX0_bucketOf : MethodName := ⟨RX0, "bucketOf", "(I)I"⟩
theorem dX0_bucketOf_0 : decode cX0_bucketOf 0 = .ok (.aload_n 0, 1) := by decide +kernel
theorem dX0_bucketOf_1 : decode cX0_bucketOf 1 = .ok (.getfield 7, 3) := by decide +kernel
theorem dX0_bucketOf_4 : decode cX0_bucketOf 4 = .ok (.iload_n 1, 1) := by decide +kernel
theorem dX0_bucketOf_5 : decode cX0_bucketOf 5 = .ok (.iconst 1, 1) := by decide +kernel
theorem dX0_bucketOf_6 : decode cX0_bucketOf 6 = .ok (.aload_n 0, 1) := by decide +kernel
theorem dX0_bucketOf_7 : decode cX0_bucketOf 7 = .ok (.getfield 35, 3) := by decide +kernel
theorem dX0_bucketOf_10 : decode cX0_bucketOf 10 = .ok (.ishl, 1) := by decide +kernel
theorem dX0_bucketOf_11 : decode cX0_bucketOf 11 = .ok (.iconst 1, 1) := by decide +kernel
theorem dX0_bucketOf_12 : decode cX0_bucketOf 12 = .ok (.isub, 1) := by decide +kernel
theorem dX0_bucketOf_13 : decode cX0_bucketOf 13 = .ok (.iand, 1) := by decide +kernel
theorem dX0_bucketOf_14 : decode cX0_bucketOf 14 = .ok (.baload, 1) := by decide +kernel
theorem dX0_bucketOf_15 : decode cX0_bucketOf 15 = .ok (.ireturn, 1) := by decide +kernel
abbrev cX0_find : ByteArray := prog_1_method_4_code
def yX0_find : MethodName := ⟨RX0, "find", "(II)I"⟩
theorem dX0_find_0 : decode cX0_find 0 = .ok (.iconst 0, 1) := by decide +kernel
theorem dX0_find_1 : decode cX0_find 1 = .ok (.istore_n 3, 1) := by decide +kernel
theorem dX0_find_2 : decode cX0_find 2 = .ok (.iload_n 3, 1) := by decide +kernel
theorem dX0_find_3 : decode cX0_find 3 = .ok (.aload_n 0, 1) := by decide +kernel
theorem dX0_find_4 : decode cX0_find 4 = .ok (.getfield 20, 3) := by decide +kernel
theorem dX0_find_7 : decode cX0_find 7 = .ok (.iload_n 1, 1) := by decide +kernel
theorem dX0_find_8 : decode cX0_find 8 = .ok (.baload, 1) := by decide +kernel
theorem dX0_find_9 : decode cX0_find 9 = .ok (.if_icmp .ge 25, 3) := by decide +kernel
theorem dX0_find_12 : decode cX0_find 12 = .ok (.aload_n 0, 1) := by decide +kernel
theorem dX0_find_13 : decode cX0_find 13 = .ok (.getfield 23, 3) := by decide +kernel
theorem dX0_find_16 : decode cX0_find 16 = .ok (.iload_n 1, 1) := by decide +kernel
theorem dX0_find_17 : decode cX0_find 17 = .ok (.iconst 5, 1) := by decide +kernel
theorem dX0_find_18 : decode cX0_find 18 = .ok (.imul, 1) := by decide +kernel
theorem dX0_find_19 : decode cX0_find 19 = .ok (.iload_n 3, 1) := by decide +kernel
theorem dX0_find_20 : decode cX0_find 20 = .ok (.iadd, 1) := by decide +kernel
theorem dX0_find_21 : decode cX0_find 21 = .ok (.saload, 1) := by decide +kernel
theorem dX0_find_22 : decode cX0_find 22 = .ok (.iload_n 2, 1) := by decide +kernel
theorem dX0_find_23 : decode cX0_find 23 = .ok (.if_icmp .ne 5, 3) := by decide +kernel
theorem dX0_find_26 : decode cX0_find 26 = .ok (.iload_n 3, 1) := by decide +kernel
theorem dX0_find_27 : decode cX0_find 27 = .ok (.ireturn, 1) := by decide +kernel
theorem dX0_find_28 : decode cX0_find 28 = .ok (.iinc 3 1, 3) := by decide +kernel
theorem dX0_find_31 : decode cX0_find 31 = .ok (.goto (-29), 3) := by decide +kernel
theorem dX0_find_34 : decode cX0_find 34 = .ok (.iconst (-1), 1) := by decide +kernel
theorem dX0_find_35 : decode cX0_find 35 = .ok (.ireturn, 1) := by decide +kernel
abbrev cX0_insert : ByteArray := prog_1_method_8_code
def yX0_insert : MethodName := ⟨RX0, "insert", "(II)V"⟩
theorem dX0_insert_0 : decode cX0_insert 0 = .ok (.aload_n 0, 1) := by decide +kernel
theorem dX0_insert_1 : decode cX0_insert 1 = .ok (.iload_n 1, 1) := by decide +kernel
theorem dX0_insert_2 : decode cX0_insert 2 = .ok (.invokevirtual 46, 3) := by decide +kernel
theorem dX0_insert_5 : decode cX0_insert 5 = .ok (.istore_n 3, 1) := by decide +kernel
theorem dX0_insert_6 : decode cX0_insert 6 = .ok (.aload_n 0, 1) := by decide +kernel
theorem dX0_insert_7 : decode cX0_insert 7 = .ok (.iload_n 3, 1) := by decide +kernel
theorem dX0_insert_8 : decode cX0_insert 8 = .ok (.iload_n 1, 1) := by decide +kernel
theorem dX0_insert_9 : decode cX0_insert 9 = .ok (.iload_n 2, 1) := by decide +kernel
theorem dX0_insert_10 : decode cX0_insert 10 = .ok (.invokevirtual 42, 3) := by decide +kernel
theorem dX0_insert_13 : decode cX0_insert 13 = .ok (.aload_n 0, 1) := by decide +kernel
theorem dX0_insert_14 : decode cX0_insert 14 = .ok (.dup, 1) := by decide +kernel
theorem dX0_insert_15 : decode cX0_insert 15 = .ok (.getfield 50, 3) := by decide +kernel
theorem dX0_insert_18 : decode cX0_insert 18 = .ok (.iconst 1, 1) := by decide +kernel
theorem dX0_insert_19 : decode cX0_insert 19 = .ok (.iadd, 1) := by decide +kernel
theorem dX0_insert_20 : decode cX0_insert 20 = .ok (.putfield 50, 3) := by decide +kernel
theorem dX0_insert_23 : decode cX0_insert 23 = .ok (.iconst 0, 1) := by decide +kernel
theorem dX0_insert_24 : decode cX0_insert 24 = .ok (.istore 4, 2) := by decide +kernel
theorem dX0_insert_26 : decode cX0_insert 26 = .ok (.iload 4, 2) := by decide +kernel
theorem dX0_insert_28 : decode cX0_insert 28 = .ok (.bipush 6, 2) := by decide +kernel
theorem dX0_insert_30 : decode cX0_insert 30 = .ok (.if_icmp .ge 31, 3) := by decide +kernel
theorem dX0_insert_33 : decode cX0_insert 33 = .ok (.aload_n 0, 1) := by decide +kernel
theorem dX0_insert_34 : decode cX0_insert 34 = .ok (.getfield 20, 3) := by decide +kernel
theorem dX0_insert_37 : decode cX0_insert 37 = .ok (.iload_n 3, 1) := by decide +kernel
theorem dX0_insert_38 : decode cX0_insert 38 = .ok (.baload, 1) := by decide +kernel
theorem dX0_insert_39 : decode cX0_insert 39 = .ok (.iconst 4, 1) := by decide +kernel
theorem dX0_insert_40 : decode cX0_insert 40 = .ok (.if_icmp .le 21, 3) := by decide +kernel
theorem dX0_insert_43 : decode cX0_insert 43 = .ok (.aload_n 0, 1) := by decide +kernel
theorem dX0_insert_44 : decode cX0_insert 44 = .ok (.iload_n 3, 1) := by decide +kernel
theorem dX0_insert_45 : decode cX0_insert 45 = .ok (.iload_n 1, 1) := by decide +kernel
theorem dX0_insert_46 : decode cX0_insert 46 = .ok (.invokevirtual 53, 3) := by decide +kernel
theorem dX0_insert_49 : decode cX0_insert 49 = .ok (.aload_n 0, 1) := by decide +kernel
theorem dX0_insert_50 : decode cX0_insert 50 = .ok (.iload_n 1, 1) := by decide +kernel
theorem dX0_insert_51 : decode cX0_insert 51 = .ok (.invokevirtual 46, 3) := by decide +kernel
theorem dX0_insert_54 : decode cX0_insert 54 = .ok (.istore_n 3, 1) := by decide +kernel
theorem dX0_insert_55 : decode cX0_insert 55 = .ok (.iinc 4 1, 3) := by decide +kernel
theorem dX0_insert_58 : decode cX0_insert 58 = .ok (.goto (-32), 3) := by decide +kernel
theorem dX0_insert_61 : decode cX0_insert 61 = .ok (.return_, 1) := by decide +kernel
abbrev cX0_append : ByteArray := prog_1_method_5_code
def yX0_append : MethodName := ⟨RX0, "append", "(III)V"⟩
theorem dX0_append_0 : decode cX0_append 0 = .ok (.aload_n 0, 1) := by decide +kernel
theorem dX0_append_1 : decode cX0_append 1 = .ok (.getfield 23, 3) := by decide +kernel
theorem dX0_append_4 : decode cX0_append 4 = .ok (.iload_n 1, 1) := by decide +kernel
theorem dX0_append_5 : decode cX0_append 5 = .ok (.iconst 5, 1) := by decide +kernel
theorem dX0_append_6 : decode cX0_append 6 = .ok (.imul, 1) := by decide +kernel
theorem dX0_append_7 : decode cX0_append 7 = .ok (.aload_n 0, 1) := by decide +kernel
theorem dX0_append_8 : decode cX0_append 8 = .ok (.getfield 20, 3) := by decide +kernel
theorem dX0_append_11 : decode cX0_append 11 = .ok (.iload_n 1, 1) := by decide +kernel
theorem dX0_append_12 : decode cX0_append 12 = .ok (.baload, 1) := by decide +kernel
theorem dX0_append_13 : decode cX0_append 13 = .ok (.iadd, 1) := by decide +kernel
theorem dX0_append_14 : decode cX0_append 14 = .ok (.iload_n 2, 1) := by decide +kernel
theorem dX0_append_15 : decode cX0_append 15 = .ok (.i2s, 1) := by decide +kernel
theorem dX0_append_16 : decode cX0_append 16 = .ok (.sastore, 1) := by decide +kernel
theorem dX0_append_17 : decode cX0_append 17 = .ok (.aload_n 0, 1) := by decide +kernel
theorem dX0_append_18 : decode cX0_append 18 = .ok (.getfield 27, 3) := by decide +kernel
theorem dX0_append_21 : decode cX0_append 21 = .ok (.iload_n 1, 1) := by decide +kernel
theorem dX0_append_22 : decode cX0_append 22 = .ok (.iconst 5, 1) := by decide +kernel
theorem dX0_append_23 : decode cX0_append 23 = .ok (.imul, 1) := by decide +kernel
theorem dX0_append_24 : decode cX0_append 24 = .ok (.aload_n 0, 1) := by decide +kernel
theorem dX0_append_25 : decode cX0_append 25 = .ok (.getfield 20, 3) := by decide +kernel
theorem dX0_append_28 : decode cX0_append 28 = .ok (.iload_n 1, 1) := by decide +kernel
theorem dX0_append_29 : decode cX0_append 29 = .ok (.baload, 1) := by decide +kernel
theorem dX0_append_30 : decode cX0_append 30 = .ok (.iadd, 1) := by decide +kernel
theorem dX0_append_31 : decode cX0_append 31 = .ok (.iload_n 3, 1) := by decide +kernel
theorem dX0_append_32 : decode cX0_append 32 = .ok (.iastore, 1) := by decide +kernel
theorem dX0_append_33 : decode cX0_append 33 = .ok (.aload_n 0, 1) := by decide +kernel
theorem dX0_append_34 : decode cX0_append 34 = .ok (.getfield 20, 3) := by decide +kernel
theorem dX0_append_37 : decode cX0_append 37 = .ok (.iload_n 1, 1) := by decide +kernel
theorem dX0_append_38 : decode cX0_append 38 = .ok (.dup2, 1) := by decide +kernel
theorem dX0_append_39 : decode cX0_append 39 = .ok (.baload, 1) := by decide +kernel
theorem dX0_append_40 : decode cX0_append 40 = .ok (.iconst 1, 1) := by decide +kernel
theorem dX0_append_41 : decode cX0_append 41 = .ok (.iadd, 1) := by decide +kernel
theorem dX0_append_42 : decode cX0_append 42 = .ok (.i2b, 1) := by decide +kernel
theorem dX0_append_43 : decode cX0_append 43 = .ok (.bastore, 1) := by decide +kernel
theorem dX0_append_44 : decode cX0_append 44 = .ok (.return_, 1) := by decide +kernel
abbrev cX0_split : ByteArray := prog_1_method_7_code
def yX0_split : MethodName := ⟨RX0, "split", "(II)V"⟩
theorem dX0_split_0 : decode cX0_split 0 = .ok (.aload_n 0, 1) := by decide +kernel
theorem dX0_split_1 : decode cX0_split 1 = .ok (.getfield 17, 3) := by decide +kernel
theorem dX0_split_4 : decode cX0_split 4 = .ok (.iload_n 1, 1) := by decide +kernel
theorem dX0_split_5 : decode cX0_split 5 = .ok (.baload, 1) := by decide +kernel
theorem dX0_split_6 : decode cX0_split 6 = .ok (.istore_n 3, 1) := by decide +kernel
theorem dX0_split_7 : decode cX0_split 7 = .ok (.iload_n 3, 1) := by decide +kernel
theorem dX0_split_8 : decode cX0_split 8 = .ok (.aload_n 0, 1) := by decide +kernel
theorem dX0_split_9 : decode cX0_split 9 = .ok (.getfield 35, 3) := by decide +kernel
theorem dX0_split_12 : decode cX0_split 12 = .ok (.if_icmp .ne 54, 3) := by decide +kernel
theorem dX0_split_15 : decode cX0_split 15 = .ok (.iconst 0, 1) := by decide +kernel
theorem dX0_split_16 : decode cX0_split 16 = .ok (.istore 4, 2) := by decide +kernel
theorem dX0_split_18 : decode cX0_split 18 = .ok (.iload 4, 2) := by decide +kernel
theorem dX0_split_20 : decode cX0_split 20 = .ok (.iconst 1, 1) := by decide +kernel
theorem dX0_split_21 : decode cX0_split 21 = .ok (.aload_n 0, 1) := by decide +kernel
theorem dX0_split_22 : decode cX0_split 22 = .ok (.getfield 35, 3) := by decide +kernel
theorem dX0_split_25 : decode cX0_split 25 = .ok (.ishl, 1) := by decide +kernel
theorem dX0_split_26 : decode cX0_split 26 = .ok (.if_icmp .ge 30, 3) := by decide +kernel
theorem dX0_split_29 : decode cX0_split 29 = .ok (.aload_n 0, 1) := by decide +kernel
theorem dX0_split_30 : decode cX0_split 30 = .ok (.getfield 7, 3) := by decide +kernel
theorem dX0_split_33 : decode cX0_split 33 = .ok (.iload 4, 2) := by decide +kernel
theorem dX0_split_35 : decode cX0_split 35 = .ok (.iconst 1, 1) := by decide +kernel
theorem dX0_split_36 : decode cX0_split 36 = .ok (.aload_n 0, 1) := by decide +kernel
theorem dX0_split_37 : decode cX0_split 37 = .ok (.getfield 35, 3) := by decide +kernel
theorem dX0_split_40 : decode cX0_split 40 = .ok (.ishl, 1) := by decide +kernel
theorem dX0_split_41 : decode cX0_split 41 = .ok (.iadd, 1) := by decide +kernel
theorem dX0_split_42 : decode cX0_split 42 = .ok (.aload_n 0, 1) := by decide +kernel
theorem dX0_split_43 : decode cX0_split 43 = .ok (.getfield 7, 3) := by decide +kernel
theorem dX0_split_46 : decode cX0_split 46 = .ok (.iload 4, 2) := by decide +kernel
theorem dX0_split_48 : decode cX0_split 48 = .ok (.baload, 1) := by decide +kernel
theorem dX0_split_49 : decode cX0_split 49 = .ok (.bastore, 1) := by decide +kernel
theorem dX0_split_50 : decode cX0_split 50 = .ok (.iinc 4 1, 3) := by decide +kernel
theorem dX0_split_53 : decode cX0_split 53 = .ok (.goto (-35), 3) := by decide +kernel
theorem dX0_split_56 : decode cX0_split 56 = .ok (.aload_n 0, 1) := by decide +kernel
theorem dX0_split_57 : decode cX0_split 57 = .ok (.dup, 1) := by decide +kernel
theorem dX0_split_58 : decode cX0_split 58 = .ok (.getfield 35, 3) := by decide +kernel
theorem dX0_split_61 : decode cX0_split 61 = .ok (.iconst 1, 1) := by decide +kernel
theorem dX0_split_62 : decode cX0_split 62 = .ok (.iadd, 1) := by decide +kernel
theorem dX0_split_63 : decode cX0_split 63 = .ok (.putfield 35, 3) := by decide +kernel
theorem dX0_split_66 : decode cX0_split 66 = .ok (.aload_n 0, 1) := by decide +kernel
theorem dX0_split_67 : decode cX0_split 67 = .ok (.invokevirtual 38, 3) := by decide +kernel
theorem dX0_split_70 : decode cX0_split 70 = .ok (.istore 4, 2) := by decide +kernel
theorem dX0_split_72 : decode cX0_split 72 = .ok (.aload_n 0, 1) := by decide +kernel
theorem dX0_split_73 : decode cX0_split 73 = .ok (.getfield 17, 3) := by decide +kernel
theorem dX0_split_76 : decode cX0_split 76 = .ok (.iload_n 1, 1) := by decide +kernel
theorem dX0_split_77 : decode cX0_split 77 = .ok (.iload_n 3, 1) := by decide +kernel
theorem dX0_split_78 : decode cX0_split 78 = .ok (.iconst 1, 1) := by decide +kernel
theorem dX0_split_79 : decode cX0_split 79 = .ok (.iadd, 1) := by decide +kernel
theorem dX0_split_80 : decode cX0_split 80 = .ok (.i2b, 1) := by decide +kernel
theorem dX0_split_81 : decode cX0_split 81 = .ok (.bastore, 1) := by decide +kernel
theorem dX0_split_82 : decode cX0_split 82 = .ok (.aload_n 0, 1) := by decide +kernel
theorem dX0_split_83 : decode cX0_split 83 = .ok (.getfield 17, 3) := by decide +kernel
theorem dX0_split_86 : decode cX0_split 86 = .ok (.iload 4, 2) := by decide +kernel
theorem dX0_split_88 : decode cX0_split 88 = .ok (.iload_n 3, 1) := by decide +kernel
theorem dX0_split_89 : decode cX0_split 89 = .ok (.iconst 1, 1) := by decide +kernel
theorem dX0_split_90 : decode cX0_split 90 = .ok (.iadd, 1) := by decide +kernel
theorem dX0_split_91 : decode cX0_split 91 = .ok (.i2b, 1) := by decide +kernel
theorem dX0_split_92 : decode cX0_split 92 = .ok (.bastore, 1) := by decide +kernel
theorem dX0_split_93 : decode cX0_split 93 = .ok (.aload_n 0, 1) := by decide +kernel
theorem dX0_split_94 : decode cX0_split 94 = .ok (.getfield 20, 3) := by decide +kernel
theorem dX0_split_97 : decode cX0_split 97 = .ok (.iload_n 1, 1) := by decide +kernel
theorem dX0_split_98 : decode cX0_split 98 = .ok (.baload, 1) := by decide +kernel
theorem dX0_split_99 : decode cX0_split 99 = .ok (.istore 5, 2) := by decide +kernel
theorem dX0_split_101 : decode cX0_split 101 = .ok (.aload_n 0, 1) := by decide +kernel
theorem dX0_split_102 : decode cX0_split 102 = .ok (.getfield 20, 3) := by decide +kernel
theorem dX0_split_105 : decode cX0_split 105 = .ok (.iload_n 1, 1) := by decide +kernel
theorem dX0_split_106 : decode cX0_split 106 = .ok (.iconst 0, 1) := by decide +kernel
theorem dX0_split_107 : decode cX0_split 107 = .ok (.bastore, 1) := by decide +kernel
theorem dX0_split_108 : decode cX0_split 108 = .ok (.iconst 0, 1) := by decide +kernel
theorem dX0_split_109 : decode cX0_split 109 = .ok (.istore 6, 2) := by decide +kernel
theorem dX0_split_111 : decode cX0_split 111 = .ok (.iload 6, 2) := by decide +kernel
theorem dX0_split_113 : decode cX0_split 113 = .ok (.iload 5, 2) := by decide +kernel
theorem dX0_split_115 : decode cX0_split 115 = .ok (.if_icmp .ge 58, 3) := by decide +kernel
theorem dX0_split_118 : decode cX0_split 118 = .ok (.aload_n 0, 1) := by decide +kernel
theorem dX0_split_119 : decode cX0_split 119 = .ok (.getfield 23, 3) := by decide +kernel
theorem dX0_split_122 : decode cX0_split 122 = .ok (.iload_n 1, 1) := by decide +kernel
theorem dX0_split_123 : decode cX0_split 123 = .ok (.iconst 5, 1) := by decide +kernel
theorem dX0_split_124 : decode cX0_split 124 = .ok (.imul, 1) := by decide +kernel
theorem dX0_split_125 : decode cX0_split 125 = .ok (.iload 6, 2) := by decide +kernel
theorem dX0_split_127 : decode cX0_split 127 = .ok (.iadd, 1) := by decide +kernel
theorem dX0_split_128 : decode cX0_split 128 = .ok (.saload, 1) := by decide +kernel
theorem dX0_split_129 : decode cX0_split 129 = .ok (.istore 7, 2) := by decide +kernel
theorem dX0_split_131 : decode cX0_split 131 = .ok (.iload 7, 2) := by decide +kernel
theorem dX0_split_133 : decode cX0_split 133 = .ok (.iload_n 3, 1) := by decide +kernel
theorem dX0_split_134 : decode cX0_split 134 = .ok (.ishr, 1) := by decide +kernel
theorem dX0_split_135 : decode cX0_split 135 = .ok (.iconst 1, 1) := by decide +kernel
theorem dX0_split_136 : decode cX0_split 136 = .ok (.iand, 1) := by decide +kernel
theorem dX0_split_137 : decode cX0_split 137 = .ok (.ifCond .ne 7, 3) := by decide +kernel
theorem dX0_split_140 : decode cX0_split 140 = .ok (.iload_n 1, 1) := by decide +kernel
theorem dX0_split_141 : decode cX0_split 141 = .ok (.goto 5, 3) := by decide +kernel
theorem dX0_split_144 : decode cX0_split 144 = .ok (.iload 4, 2) := by decide +kernel
theorem dX0_split_146 : decode cX0_split 146 = .ok (.istore 8, 2) := by decide +kernel
theorem dX0_split_148 : decode cX0_split 148 = .ok (.aload_n 0, 1) := by decide +kernel
theorem dX0_split_149 : decode cX0_split 149 = .ok (.iload 8, 2) := by decide +kernel
theorem dX0_split_151 : decode cX0_split 151 = .ok (.iload 7, 2) := by decide +kernel
theorem dX0_split_153 : decode cX0_split 153 = .ok (.aload_n 0, 1) := by decide +kernel
theorem dX0_split_154 : decode cX0_split 154 = .ok (.getfield 27, 3) := by decide +kernel
theorem dX0_split_157 : decode cX0_split 157 = .ok (.iload_n 1, 1) := by decide +kernel
theorem dX0_split_158 : decode cX0_split 158 = .ok (.iconst 5, 1) := by decide +kernel
theorem dX0_split_159 : decode cX0_split 159 = .ok (.imul, 1) := by decide +kernel
theorem dX0_split_160 : decode cX0_split 160 = .ok (.iload 6, 2) := by decide +kernel
theorem dX0_split_162 : decode cX0_split 162 = .ok (.iadd, 1) := by decide +kernel
theorem dX0_split_163 : decode cX0_split 163 = .ok (.iaload, 1) := by decide +kernel
theorem dX0_split_164 : decode cX0_split 164 = .ok (.invokevirtual 42, 3) := by decide +kernel
theorem dX0_split_167 : decode cX0_split 167 = .ok (.iinc 6 1, 3) := by decide +kernel
theorem dX0_split_170 : decode cX0_split 170 = .ok (.goto (-59), 3) := by decide +kernel
theorem dX0_split_173 : decode cX0_split 173 = .ok (.iconst 1, 1) := by decide +kernel
theorem dX0_split_174 : decode cX0_split 174 = .ok (.iload_n 3, 1) := by decide +kernel
theorem dX0_split_175 : decode cX0_split 175 = .ok (.ishl, 1) := by decide +kernel
theorem dX0_split_176 : decode cX0_split 176 = .ok (.iconst 1, 1) := by decide +kernel
theorem dX0_split_177 : decode cX0_split 177 = .ok (.isub, 1) := by decide +kernel
theorem dX0_split_178 : decode cX0_split 178 = .ok (.istore 6, 2) := by decide +kernel
theorem dX0_split_180 : decode cX0_split 180 = .ok (.iconst 0, 1) := by decide +kernel
theorem dX0_split_181 : decode cX0_split 181 = .ok (.istore 7, 2) := by decide +kernel
theorem dX0_split_183 : decode cX0_split 183 = .ok (.iload 7, 2) := by decide +kernel
theorem dX0_split_185 : decode cX0_split 185 = .ok (.iconst 1, 1) := by decide +kernel
theorem dX0_split_186 : decode cX0_split 186 = .ok (.aload_n 0, 1) := by decide +kernel
theorem dX0_split_187 : decode cX0_split 187 = .ok (.getfield 35, 3) := by decide +kernel
theorem dX0_split_190 : decode cX0_split 190 = .ok (.ishl, 1) := by decide +kernel
theorem dX0_split_191 : decode cX0_split 191 = .ok (.if_icmp .ge 41, 3) := by decide +kernel
theorem dX0_split_194 : decode cX0_split 194 = .ok (.iload 7, 2) := by decide +kernel
theorem dX0_split_196 : decode cX0_split 196 = .ok (.iload 6, 2) := by decide +kernel
theorem dX0_split_198 : decode cX0_split 198 = .ok (.iand, 1) := by decide +kernel
theorem dX0_split_199 : decode cX0_split 199 = .ok (.iload_n 2, 1) := by decide +kernel
theorem dX0_split_200 : decode cX0_split 200 = .ok (.iload 6, 2) := by decide +kernel
theorem dX0_split_202 : decode cX0_split 202 = .ok (.iand, 1) := by decide +kernel
theorem dX0_split_203 : decode cX0_split 203 = .ok (.if_icmp .ne 23, 3) := by decide +kernel
theorem dX0_split_206 : decode cX0_split 206 = .ok (.iload 7, 2) := by decide +kernel
theorem dX0_split_208 : decode cX0_split 208 = .ok (.iload_n 3, 1) := by decide +kernel
theorem dX0_split_209 : decode cX0_split 209 = .ok (.ishr, 1) := by decide +kernel
theorem dX0_split_210 : decode cX0_split 210 = .ok (.iconst 1, 1) := by decide +kernel
theorem dX0_split_211 : decode cX0_split 211 = .ok (.iand, 1) := by decide +kernel
theorem dX0_split_212 : decode cX0_split 212 = .ok (.iconst 1, 1) := by decide +kernel
theorem dX0_split_213 : decode cX0_split 213 = .ok (.if_icmp .ne 13, 3) := by decide +kernel
theorem dX0_split_216 : decode cX0_split 216 = .ok (.aload_n 0, 1) := by decide +kernel
theorem dX0_split_217 : decode cX0_split 217 = .ok (.getfield 7, 3) := by decide +kernel
theorem dX0_split_220 : decode cX0_split 220 = .ok (.iload 7, 2) := by decide +kernel
theorem dX0_split_222 : decode cX0_split 222 = .ok (.iload 4, 2) := by decide +kernel
theorem dX0_split_224 : decode cX0_split 224 = .ok (.i2b, 1) := by decide +kernel
theorem dX0_split_225 : decode cX0_split 225 = .ok (.bastore, 1) := by decide +kernel
theorem dX0_split_226 : decode cX0_split 226 = .ok (.iinc 7 1, 3) := by decide +kernel
theorem dX0_split_229 : decode cX0_split 229 = .ok (.goto (-46), 3) := by decide +kernel
theorem dX0_split_232 : decode cX0_split 232 = .ok (.return_, 1) := by decide +kernel
end
section
set_option maxRecDepth 100000
abbrev cX0_newBucket : ByteArray := prog_1_method_6_code
def yX0_newBucket : MethodName := ⟨RX0, "newBucket", "()I"⟩
theorem dX0_newBucket_0 : decode cX0_newBucket 0 = .ok (.iconst 0, 1) := by decide +kernel
theorem dX0_newBucket_1 : decode cX0_newBucket 1 = .ok (.istore_n 1, 1) := by decide +kernel
theorem dX0_newBucket_2 : decode cX0_newBucket 2 = .ok (.aload_n 0, 1) := by decide +kernel
theorem dX0_newBucket_3 : decode cX0_newBucket 3 = .ok (.getfield 13, 3) := by decide +kernel
theorem dX0_newBucket_6 : decode cX0_newBucket 6 = .ok (.iload_n 1, 1) := by decide +kernel
theorem dX0_newBucket_7 : decode cX0_newBucket 7 = .ok (.baload, 1) := by decide +kernel
theorem dX0_newBucket_8 : decode cX0_newBucket 8 = .ok (.ifCond .eq 9, 3) := by decide +kernel
theorem dX0_newBucket_11 : decode cX0_newBucket 11 = .ok (.iinc 1 1, 3) := by decide +kernel
theorem dX0_newBucket_14 : decode cX0_newBucket 14 = .ok (.goto (-12), 3) := by decide +kernel
theorem dX0_newBucket_17 : decode cX0_newBucket 17 = .ok (.aload_n 0, 1) := by decide +kernel
theorem dX0_newBucket_18 : decode cX0_newBucket 18 = .ok (.getfield 13, 3) := by decide +kernel
theorem dX0_newBucket_21 : decode cX0_newBucket 21 = .ok (.iload_n 1, 1) := by decide +kernel
theorem dX0_newBucket_22 : decode cX0_newBucket 22 = .ok (.iconst 1, 1) := by decide +kernel
theorem dX0_newBucket_23 : decode cX0_newBucket 23 = .ok (.bastore, 1) := by decide +kernel
theorem dX0_newBucket_24 : decode cX0_newBucket 24 = .ok (.aload_n 0, 1) := by decide +kernel
theorem dX0_newBucket_25 : decode cX0_newBucket 25 = .ok (.getfield 20, 3) := by decide +kernel
theorem dX0_newBucket_28 : decode cX0_newBucket 28 = .ok (.iload_n 1, 1) := by decide +kernel
theorem dX0_newBucket_29 : decode cX0_newBucket 29 = .ok (.iconst 0, 1) := by decide +kernel
theorem dX0_newBucket_30 : decode cX0_newBucket 30 = .ok (.bastore, 1) := by decide +kernel
theorem dX0_newBucket_31 : decode cX0_newBucket 31 = .ok (.aload_n 0, 1) := by decide +kernel
theorem dX0_newBucket_32 : decode cX0_newBucket 32 = .ok (.dup, 1) := by decide +kernel
theorem dX0_newBucket_33 : decode cX0_newBucket 33 = .ok (.getfield 31, 3) := by decide +kernel
theorem dX0_newBucket_36 : decode cX0_newBucket 36 = .ok (.iconst 1, 1) := by decide +kernel
theorem dX0_newBucket_37 : decode cX0_newBucket 37 = .ok (.iadd, 1) := by decide +kernel
theorem dX0_newBucket_38 : decode cX0_newBucket 38 = .ok (.putfield 31, 3) := by decide +kernel
theorem dX0_newBucket_41 : decode cX0_newBucket 41 = .ok (.iload_n 1, 1) := by decide +kernel
theorem dX0_newBucket_42 : decode cX0_newBucket 42 = .ok (.ireturn, 1) := by decide +kernel
abbrev cX0_remove : ByteArray := prog_1_method_12_code
def yX0_remove : MethodName := ⟨RX0, "remove", "(I)I"⟩
theorem dX0_remove_0 : decode cX0_remove 0 = .ok (.aload_n 0, 1) := by decide +kernel
theorem dX0_remove_1 : decode cX0_remove 1 = .ok (.iload_n 1, 1) := by decide +kernel
theorem dX0_remove_2 : decode cX0_remove 2 = .ok (.invokevirtual 74, 3) := by decide +kernel
theorem dX0_remove_5 : decode cX0_remove 5 = .ok (.ifCond .ne 5, 3) := by decide +kernel
theorem dX0_remove_8 : decode cX0_remove 8 = .ok (.iconst (-1), 1) := by decide +kernel
theorem dX0_remove_9 : decode cX0_remove 9 = .ok (.ireturn, 1) := by decide +kernel
theorem dX0_remove_10 : decode cX0_remove 10 = .ok (.aload_n 0, 1) := by decide +kernel
theorem dX0_remove_11 : decode cX0_remove 11 = .ok (.iload_n 1, 1) := by decide +kernel
theorem dX0_remove_12 : decode cX0_remove 12 = .ok (.invokevirtual 46, 3) := by decide +kernel
theorem dX0_remove_15 : decode cX0_remove 15 = .ok (.istore_n 2, 1) := by decide +kernel
theorem dX0_remove_16 : decode cX0_remove 16 = .ok (.aload_n 0, 1) := by decide +kernel
theorem dX0_remove_17 : decode cX0_remove 17 = .ok (.iload_n 2, 1) := by decide +kernel
theorem dX0_remove_18 : decode cX0_remove 18 = .ok (.iload_n 1, 1) := by decide +kernel
theorem dX0_remove_19 : decode cX0_remove 19 = .ok (.invokevirtual 67, 3) := by decide +kernel
theorem dX0_remove_22 : decode cX0_remove 22 = .ok (.istore_n 3, 1) := by decide +kernel
theorem dX0_remove_23 : decode cX0_remove 23 = .ok (.aload_n 0, 1) := by decide +kernel
theorem dX0_remove_24 : decode cX0_remove 24 = .ok (.iload_n 2, 1) := by decide +kernel
theorem dX0_remove_25 : decode cX0_remove 25 = .ok (.iload_n 3, 1) := by decide +kernel
theorem dX0_remove_26 : decode cX0_remove 26 = .ok (.iload_n 1, 1) := by decide +kernel
theorem dX0_remove_27 : decode cX0_remove 27 = .ok (.invokevirtual 77, 3) := by decide +kernel
theorem dX0_remove_30 : decode cX0_remove 30 = .ok (.aload_n 0, 1) := by decide +kernel
theorem dX0_remove_31 : decode cX0_remove 31 = .ok (.getfield 31, 3) := by decide +kernel
theorem dX0_remove_34 : decode cX0_remove 34 = .ok (.ireturn, 1) := by decide +kernel
abbrev cX0_has : ByteArray := prog_1_method_13_code
def yX0_has : MethodName := ⟨RX0, "has", "(I)Z"⟩
theorem dX0_has_0 : decode cX0_has 0 = .ok (.iload_n 1, 1) := by decide +kernel
theorem dX0_has_1 : decode cX0_has 1 = .ok (.invokestatic 64, 3) := by decide +kernel
theorem dX0_has_4 : decode cX0_has 4 = .ok (.ifCond .ne 5, 3) := by decide +kernel
theorem dX0_has_7 : decode cX0_has 7 = .ok (.iconst 0, 1) := by decide +kernel
theorem dX0_has_8 : decode cX0_has 8 = .ok (.ireturn, 1) := by decide +kernel
theorem dX0_has_9 : decode cX0_has 9 = .ok (.aload_n 0, 1) := by decide +kernel
theorem dX0_has_10 : decode cX0_has 10 = .ok (.iload_n 1, 1) := by decide +kernel
theorem dX0_has_11 : decode cX0_has 11 = .ok (.invokevirtual 46, 3) := by decide +kernel
theorem dX0_has_14 : decode cX0_has 14 = .ok (.istore_n 2, 1) := by decide +kernel
theorem dX0_has_15 : decode cX0_has 15 = .ok (.aload_n 0, 1) := by decide +kernel
theorem dX0_has_16 : decode cX0_has 16 = .ok (.iload_n 2, 1) := by decide +kernel
theorem dX0_has_17 : decode cX0_has 17 = .ok (.iload_n 1, 1) := by decide +kernel
theorem dX0_has_18 : decode cX0_has 18 = .ok (.invokevirtual 67, 3) := by decide +kernel
theorem dX0_has_21 : decode cX0_has 21 = .ok (.ifCond .lt 7, 3) := by decide +kernel
theorem dX0_has_24 : decode cX0_has 24 = .ok (.iconst 1, 1) := by decide +kernel
theorem dX0_has_25 : decode cX0_has 25 = .ok (.goto 4, 3) := by decide +kernel
theorem dX0_has_28 : decode cX0_has 28 = .ok (.iconst 0, 1) := by decide +kernel
theorem dX0_has_29 : decode cX0_has 29 = .ok (.ireturn, 1) := by decide +kernel
abbrev cX0_delete : ByteArray := prog_1_method_9_code
def yX0_delete : MethodName := ⟨RX0, "delete", "(III)V"⟩
theorem dX0_delete_0 : decode cX0_delete 0 = .ok (.aload_n 0, 1) := by decide +kernel
theorem dX0_delete_1 : decode cX0_delete 1 = .ok (.getfield 20, 3) := by decide +kernel
theorem dX0_delete_4 : decode cX0_delete 4 = .ok (.iload_n 1, 1) := by decide +kernel
theorem dX0_delete_5 : decode cX0_delete 5 = .ok (.dup2, 1) := by decide +kernel
theorem dX0_delete_6 : decode cX0_delete 6 = .ok (.baload, 1) := by decide +kernel
theorem dX0_delete_7 : decode cX0_delete 7 = .ok (.iconst 1, 1) := by decide +kernel
theorem dX0_delete_8 : decode cX0_delete 8 = .ok (.isub, 1) := by decide +kernel
theorem dX0_delete_9 : decode cX0_delete 9 = .ok (.i2b, 1) := by decide +kernel
theorem dX0_delete_10 : decode cX0_delete 10 = .ok (.bastore, 1) := by decide +kernel
theorem dX0_delete_11 : decode cX0_delete 11 = .ok (.aload_n 0, 1) := by decide +kernel
theorem dX0_delete_12 : decode cX0_delete 12 = .ok (.getfield 23, 3) := by decide +kernel
theorem dX0_delete_15 : decode cX0_delete 15 = .ok (.iload_n 1, 1) := by decide +kernel
theorem dX0_delete_16 : decode cX0_delete 16 = .ok (.iconst 5, 1) := by decide +kernel
theorem dX0_delete_17 : decode cX0_delete 17 = .ok (.imul, 1) := by decide +kernel
theorem dX0_delete_18 : decode cX0_delete 18 = .ok (.iload_n 2, 1) := by decide +kernel
theorem dX0_delete_19 : decode cX0_delete 19 = .ok (.iadd, 1) := by decide +kernel
theorem dX0_delete_20 : decode cX0_delete 20 = .ok (.aload_n 0, 1) := by decide +kernel
theorem dX0_delete_21 : decode cX0_delete 21 = .ok (.getfield 23, 3) := by decide +kernel
theorem dX0_delete_24 : decode cX0_delete 24 = .ok (.iload_n 1, 1) := by decide +kernel
theorem dX0_delete_25 : decode cX0_delete 25 = .ok (.iconst 5, 1) := by decide +kernel
theorem dX0_delete_26 : decode cX0_delete 26 = .ok (.imul, 1) := by decide +kernel
theorem dX0_delete_27 : decode cX0_delete 27 = .ok (.aload_n 0, 1) := by decide +kernel
theorem dX0_delete_28 : decode cX0_delete 28 = .ok (.getfield 20, 3) := by decide +kernel
theorem dX0_delete_31 : decode cX0_delete 31 = .ok (.iload_n 1, 1) := by decide +kernel
theorem dX0_delete_32 : decode cX0_delete 32 = .ok (.baload, 1) := by decide +kernel
theorem dX0_delete_33 : decode cX0_delete 33 = .ok (.iadd, 1) := by decide +kernel
theorem dX0_delete_34 : decode cX0_delete 34 = .ok (.saload, 1) := by decide +kernel
theorem dX0_delete_35 : decode cX0_delete 35 = .ok (.sastore, 1) := by decide +kernel
theorem dX0_delete_36 : decode cX0_delete 36 = .ok (.aload_n 0, 1) := by decide +kernel
theorem dX0_delete_37 : decode cX0_delete 37 = .ok (.getfield 27, 3) := by decide +kernel
theorem dX0_delete_40 : decode cX0_delete 40 = .ok (.iload_n 1, 1) := by decide +kernel
theorem dX0_delete_41 : decode cX0_delete 41 = .ok (.iconst 5, 1) := by decide +kernel
theorem dX0_delete_42 : decode cX0_delete 42 = .ok (.imul, 1) := by decide +kernel
theorem dX0_delete_43 : decode cX0_delete 43 = .ok (.iload_n 2, 1) := by decide +kernel
theorem dX0_delete_44 : decode cX0_delete 44 = .ok (.iadd, 1) := by decide +kernel
theorem dX0_delete_45 : decode cX0_delete 45 = .ok (.aload_n 0, 1) := by decide +kernel
theorem dX0_delete_46 : decode cX0_delete 46 = .ok (.getfield 27, 3) := by decide +kernel
theorem dX0_delete_49 : decode cX0_delete 49 = .ok (.iload_n 1, 1) := by decide +kernel
theorem dX0_delete_50 : decode cX0_delete 50 = .ok (.iconst 5, 1) := by decide +kernel
theorem dX0_delete_51 : decode cX0_delete 51 = .ok (.imul, 1) := by decide +kernel
theorem dX0_delete_52 : decode cX0_delete 52 = .ok (.aload_n 0, 1) := by decide +kernel
theorem dX0_delete_53 : decode cX0_delete 53 = .ok (.getfield 20, 3) := by decide +kernel
theorem dX0_delete_56 : decode cX0_delete 56 = .ok (.iload_n 1, 1) := by decide +kernel
theorem dX0_delete_57 : decode cX0_delete 57 = .ok (.baload, 1) := by decide +kernel
theorem dX0_delete_58 : decode cX0_delete 58 = .ok (.iadd, 1) := by decide +kernel
theorem dX0_delete_59 : decode cX0_delete 59 = .ok (.iaload, 1) := by decide +kernel
theorem dX0_delete_60 : decode cX0_delete 60 = .ok (.iastore, 1) := by decide +kernel
theorem dX0_delete_61 : decode cX0_delete 61 = .ok (.aload_n 0, 1) := by decide +kernel
theorem dX0_delete_62 : decode cX0_delete 62 = .ok (.dup, 1) := by decide +kernel
theorem dX0_delete_63 : decode cX0_delete 63 = .ok (.getfield 50, 3) := by decide +kernel
theorem dX0_delete_66 : decode cX0_delete 66 = .ok (.iconst 1, 1) := by decide +kernel
theorem dX0_delete_67 : decode cX0_delete 67 = .ok (.isub, 1) := by decide +kernel
theorem dX0_delete_68 : decode cX0_delete 68 = .ok (.putfield 50, 3) := by decide +kernel
theorem dX0_delete_71 : decode cX0_delete 71 = .ok (.iconst 1, 1) := by decide +kernel
theorem dX0_delete_72 : decode cX0_delete 72 = .ok (.istore 4, 2) := by decide +kernel
theorem dX0_delete_74 : decode cX0_delete 74 = .ok (.iconst 0, 1) := by decide +kernel
theorem dX0_delete_75 : decode cX0_delete 75 = .ok (.istore 5, 2) := by decide +kernel
theorem dX0_delete_77 : decode cX0_delete 77 = .ok (.iload 5, 2) := by decide +kernel
theorem dX0_delete_79 : decode cX0_delete 79 = .ok (.bipush 6, 2) := by decide +kernel
theorem dX0_delete_81 : decode cX0_delete 81 = .ok (.if_icmp .ge 21, 3) := by decide +kernel
theorem dX0_delete_84 : decode cX0_delete 84 = .ok (.iload 4, 2) := by decide +kernel
theorem dX0_delete_86 : decode cX0_delete 86 = .ok (.ifCond .eq 16, 3) := by decide +kernel
theorem dX0_delete_89 : decode cX0_delete 89 = .ok (.aload_n 0, 1) := by decide +kernel
theorem dX0_delete_90 : decode cX0_delete 90 = .ok (.iload_n 3, 1) := by decide +kernel
theorem dX0_delete_91 : decode cX0_delete 91 = .ok (.invokevirtual 57, 3) := by decide +kernel
theorem dX0_delete_94 : decode cX0_delete 94 = .ok (.istore 4, 2) := by decide +kernel
theorem dX0_delete_96 : decode cX0_delete 96 = .ok (.iinc 5 1, 3) := by decide +kernel
theorem dX0_delete_99 : decode cX0_delete 99 = .ok (.goto (-22), 3) := by decide +kernel
theorem dX0_delete_102 : decode cX0_delete 102 = .ok (.aload_n 0, 1) := by decide +kernel
theorem dX0_delete_103 : decode cX0_delete 103 = .ok (.getfield 35, 3) := by decide +kernel
theorem dX0_delete_106 : decode cX0_delete 106 = .ok (.ifCond .le 27, 3) := by decide +kernel
theorem dX0_delete_109 : decode cX0_delete 109 = .ok (.aload_n 0, 1) := by decide +kernel
theorem dX0_delete_110 : decode cX0_delete 110 = .ok (.invokevirtual 61, 3) := by decide +kernel
theorem dX0_delete_113 : decode cX0_delete 113 = .ok (.aload_n 0, 1) := by decide +kernel
theorem dX0_delete_114 : decode cX0_delete 114 = .ok (.getfield 35, 3) := by decide +kernel
theorem dX0_delete_117 : decode cX0_delete 117 = .ok (.if_icmp .ge 16, 3) := by decide +kernel
theorem dX0_delete_120 : decode cX0_delete 120 = .ok (.aload_n 0, 1) := by decide +kernel
theorem dX0_delete_121 : decode cX0_delete 121 = .ok (.dup, 1) := by decide +kernel
theorem dX0_delete_122 : decode cX0_delete 122 = .ok (.getfield 35, 3) := by decide +kernel
theorem dX0_delete_125 : decode cX0_delete 125 = .ok (.iconst 1, 1) := by decide +kernel
theorem dX0_delete_126 : decode cX0_delete 126 = .ok (.isub, 1) := by decide +kernel
theorem dX0_delete_127 : decode cX0_delete 127 = .ok (.putfield 35, 3) := by decide +kernel
theorem dX0_delete_130 : decode cX0_delete 130 = .ok (.goto (-28), 3) := by decide +kernel
theorem dX0_delete_133 : decode cX0_delete 133 = .ok (.return_, 1) := by decide +kernel
abbrev cX0_joinAt : ByteArray := prog_1_method_10_code
def yX0_joinAt : MethodName := ⟨RX0, "joinAt", "(I)Z"⟩
theorem dX0_joinAt_0 : decode cX0_joinAt 0 = .ok (.aload_n 0, 1) := by decide +kernel
theorem dX0_joinAt_1 : decode cX0_joinAt 1 = .ok (.iload_n 1, 1) := by decide +kernel
theorem dX0_joinAt_2 : decode cX0_joinAt 2 = .ok (.invokevirtual 46, 3) := by decide +kernel
theorem dX0_joinAt_5 : decode cX0_joinAt 5 = .ok (.istore_n 2, 1) := by decide +kernel
theorem dX0_joinAt_6 : decode cX0_joinAt 6 = .ok (.aload_n 0, 1) := by decide +kernel
theorem dX0_joinAt_7 : decode cX0_joinAt 7 = .ok (.getfield 17, 3) := by decide +kernel
theorem dX0_joinAt_10 : decode cX0_joinAt 10 = .ok (.iload_n 2, 1) := by decide +kernel
theorem dX0_joinAt_11 : decode cX0_joinAt 11 = .ok (.baload, 1) := by decide +kernel
theorem dX0_joinAt_12 : decode cX0_joinAt 12 = .ok (.istore_n 3, 1) := by decide +kernel
theorem dX0_joinAt_13 : decode cX0_joinAt 13 = .ok (.iload_n 3, 1) := by decide +kernel
theorem dX0_joinAt_14 : decode cX0_joinAt 14 = .ok (.ifCond .ne 5, 3) := by decide +kernel
theorem dX0_joinAt_17 : decode cX0_joinAt 17 = .ok (.iconst 0, 1) := by decide +kernel
theorem dX0_joinAt_18 : decode cX0_joinAt 18 = .ok (.ireturn, 1) := by decide +kernel
theorem dX0_joinAt_19 : decode cX0_joinAt 19 = .ok (.aload_n 0, 1) := by decide +kernel
theorem dX0_joinAt_20 : decode cX0_joinAt 20 = .ok (.getfield 7, 3) := by decide +kernel
theorem dX0_joinAt_23 : decode cX0_joinAt 23 = .ok (.iload_n 1, 1) := by decide +kernel
theorem dX0_joinAt_24 : decode cX0_joinAt 24 = .ok (.iconst 1, 1) := by decide +kernel
theorem dX0_joinAt_25 : decode cX0_joinAt 25 = .ok (.iload_n 3, 1) := by decide +kernel
theorem dX0_joinAt_26 : decode cX0_joinAt 26 = .ok (.iconst 1, 1) := by decide +kernel
theorem dX0_joinAt_27 : decode cX0_joinAt 27 = .ok (.isub, 1) := by decide +kernel
theorem dX0_joinAt_28 : decode cX0_joinAt 28 = .ok (.ishl, 1) := by decide +kernel
theorem dX0_joinAt_29 : decode cX0_joinAt 29 = .ok (.ixor, 1) := by decide +kernel
theorem dX0_joinAt_30 : decode cX0_joinAt 30 = .ok (.iconst 1, 1) := by decide +kernel
theorem dX0_joinAt_31 : decode cX0_joinAt 31 = .ok (.aload_n 0, 1) := by decide +kernel
theorem dX0_joinAt_32 : decode cX0_joinAt 32 = .ok (.getfield 35, 3) := by decide +kernel
theorem dX0_joinAt_35 : decode cX0_joinAt 35 = .ok (.ishl, 1) := by decide +kernel
theorem dX0_joinAt_36 : decode cX0_joinAt 36 = .ok (.iconst 1, 1) := by decide +kernel
theorem dX0_joinAt_37 : decode cX0_joinAt 37 = .ok (.isub, 1) := by decide +kernel
theorem dX0_joinAt_38 : decode cX0_joinAt 38 = .ok (.iand, 1) := by decide +kernel
theorem dX0_joinAt_39 : decode cX0_joinAt 39 = .ok (.baload, 1) := by decide +kernel
theorem dX0_joinAt_40 : decode cX0_joinAt 40 = .ok (.istore 4, 2) := by decide +kernel
theorem dX0_joinAt_42 : decode cX0_joinAt 42 = .ok (.aload_n 0, 1) := by decide +kernel
theorem dX0_joinAt_43 : decode cX0_joinAt 43 = .ok (.getfield 17, 3) := by decide +kernel
theorem dX0_joinAt_46 : decode cX0_joinAt 46 = .ok (.iload 4, 2) := by decide +kernel
theorem dX0_joinAt_48 : decode cX0_joinAt 48 = .ok (.baload, 1) := by decide +kernel
theorem dX0_joinAt_49 : decode cX0_joinAt 49 = .ok (.iload_n 3, 1) := by decide +kernel
theorem dX0_joinAt_50 : decode cX0_joinAt 50 = .ok (.if_icmp .ne 21, 3) := by decide +kernel
theorem dX0_joinAt_53 : decode cX0_joinAt 53 = .ok (.aload_n 0, 1) := by decide +kernel
theorem dX0_joinAt_54 : decode cX0_joinAt 54 = .ok (.getfield 20, 3) := by decide +kernel
theorem dX0_joinAt_57 : decode cX0_joinAt 57 = .ok (.iload_n 2, 1) := by decide +kernel
theorem dX0_joinAt_58 : decode cX0_joinAt 58 = .ok (.baload, 1) := by decide +kernel
theorem dX0_joinAt_59 : decode cX0_joinAt 59 = .ok (.aload_n 0, 1) := by decide +kernel
theorem dX0_joinAt_60 : decode cX0_joinAt 60 = .ok (.getfield 20, 3) := by decide +kernel
theorem dX0_joinAt_63 : decode cX0_joinAt 63 = .ok (.iload 4, 2) := by decide +kernel
theorem dX0_joinAt_65 : decode cX0_joinAt 65 = .ok (.baload, 1) := by decide +kernel
theorem dX0_joinAt_66 : decode cX0_joinAt 66 = .ok (.iadd, 1) := by decide +kernel
theorem dX0_joinAt_67 : decode cX0_joinAt 67 = .ok (.iconst 4, 1) := by decide +kernel
theorem dX0_joinAt_68 : decode cX0_joinAt 68 = .ok (.if_icmp .le 5, 3) := by decide +kernel
theorem dX0_joinAt_71 : decode cX0_joinAt 71 = .ok (.iconst 0, 1) := by decide +kernel
theorem dX0_joinAt_72 : decode cX0_joinAt 72 = .ok (.ireturn, 1) := by decide +kernel
theorem dX0_joinAt_73 : decode cX0_joinAt 73 = .ok (.iconst 0, 1) := by decide +kernel
theorem dX0_joinAt_74 : decode cX0_joinAt 74 = .ok (.istore 5, 2) := by decide +kernel
theorem dX0_joinAt_76 : decode cX0_joinAt 76 = .ok (.iload 5, 2) := by decide +kernel
theorem dX0_joinAt_78 : decode cX0_joinAt 78 = .ok (.aload_n 0, 1) := by decide +kernel
theorem dX0_joinAt_79 : decode cX0_joinAt 79 = .ok (.getfield 20, 3) := by decide +kernel
theorem dX0_joinAt_82 : decode cX0_joinAt 82 = .ok (.iload 4, 2) := by decide +kernel
theorem dX0_joinAt_84 : decode cX0_joinAt 84 = .ok (.baload, 1) := by decide +kernel
theorem dX0_joinAt_85 : decode cX0_joinAt 85 = .ok (.if_icmp .ge 38, 3) := by decide +kernel
theorem dX0_joinAt_88 : decode cX0_joinAt 88 = .ok (.aload_n 0, 1) := by decide +kernel
theorem dX0_joinAt_89 : decode cX0_joinAt 89 = .ok (.iload_n 2, 1) := by decide +kernel
theorem dX0_joinAt_90 : decode cX0_joinAt 90 = .ok (.aload_n 0, 1) := by decide +kernel
theorem dX0_joinAt_91 : decode cX0_joinAt 91 = .ok (.getfield 23, 3) := by decide +kernel
theorem dX0_joinAt_94 : decode cX0_joinAt 94 = .ok (.iload 4, 2) := by decide +kernel
theorem dX0_joinAt_96 : decode cX0_joinAt 96 = .ok (.iconst 5, 1) := by decide +kernel
theorem dX0_joinAt_97 : decode cX0_joinAt 97 = .ok (.imul, 1) := by decide +kernel
theorem dX0_joinAt_98 : decode cX0_joinAt 98 = .ok (.iload 5, 2) := by decide +kernel
theorem dX0_joinAt_100 : decode cX0_joinAt 100 = .ok (.iadd, 1) := by decide +kernel
theorem dX0_joinAt_101 : decode cX0_joinAt 101 = .ok (.saload, 1) := by decide +kernel
theorem dX0_joinAt_102 : decode cX0_joinAt 102 = .ok (.aload_n 0, 1) := by decide +kernel
theorem dX0_joinAt_103 : decode cX0_joinAt 103 = .ok (.getfield 27, 3) := by decide +kernel
theorem dX0_joinAt_106 : decode cX0_joinAt 106 = .ok (.iload 4, 2) := by decide +kernel
theorem dX0_joinAt_108 : decode cX0_joinAt 108 = .ok (.iconst 5, 1) := by decide +kernel
theorem dX0_joinAt_109 : decode cX0_joinAt 109 = .ok (.imul, 1) := by decide +kernel
theorem dX0_joinAt_110 : decode cX0_joinAt 110 = .ok (.iload 5, 2) := by decide +kernel
theorem dX0_joinAt_112 : decode cX0_joinAt 112 = .ok (.iadd, 1) := by decide +kernel
theorem dX0_joinAt_113 : decode cX0_joinAt 113 = .ok (.iaload, 1) := by decide +kernel
theorem dX0_joinAt_114 : decode cX0_joinAt 114 = .ok (.invokevirtual 42, 3) := by decide +kernel
theorem dX0_joinAt_117 : decode cX0_joinAt 117 = .ok (.iinc 5 1, 3) := by decide +kernel
theorem dX0_joinAt_120 : decode cX0_joinAt 120 = .ok (.goto (-44), 3) := by decide +kernel
theorem dX0_joinAt_123 : decode cX0_joinAt 123 = .ok (.aload_n 0, 1) := by decide +kernel
theorem dX0_joinAt_124 : decode cX0_joinAt 124 = .ok (.getfield 13, 3) := by decide +kernel
theorem dX0_joinAt_127 : decode cX0_joinAt 127 = .ok (.iload 4, 2) := by decide +kernel
theorem dX0_joinAt_129 : decode cX0_joinAt 129 = .ok (.iconst 0, 1) := by decide +kernel
theorem dX0_joinAt_130 : decode cX0_joinAt 130 = .ok (.bastore, 1) := by decide +kernel
theorem dX0_joinAt_131 : decode cX0_joinAt 131 = .ok (.aload_n 0, 1) := by decide +kernel
theorem dX0_joinAt_132 : decode cX0_joinAt 132 = .ok (.dup, 1) := by decide +kernel
theorem dX0_joinAt_133 : decode cX0_joinAt 133 = .ok (.getfield 31, 3) := by decide +kernel
theorem dX0_joinAt_136 : decode cX0_joinAt 136 = .ok (.iconst 1, 1) := by decide +kernel
theorem dX0_joinAt_137 : decode cX0_joinAt 137 = .ok (.isub, 1) := by decide +kernel
theorem dX0_joinAt_138 : decode cX0_joinAt 138 = .ok (.putfield 31, 3) := by decide +kernel
theorem dX0_joinAt_141 : decode cX0_joinAt 141 = .ok (.aload_n 0, 1) := by decide +kernel
theorem dX0_joinAt_142 : decode cX0_joinAt 142 = .ok (.getfield 17, 3) := by decide +kernel
theorem dX0_joinAt_145 : decode cX0_joinAt 145 = .ok (.iload_n 2, 1) := by decide +kernel
theorem dX0_joinAt_146 : decode cX0_joinAt 146 = .ok (.iload_n 3, 1) := by decide +kernel
theorem dX0_joinAt_147 : decode cX0_joinAt 147 = .ok (.iconst 1, 1) := by decide +kernel
theorem dX0_joinAt_148 : decode cX0_joinAt 148 = .ok (.isub, 1) := by decide +kernel
theorem dX0_joinAt_149 : decode cX0_joinAt 149 = .ok (.i2b, 1) := by decide +kernel
theorem dX0_joinAt_150 : decode cX0_joinAt 150 = .ok (.bastore, 1) := by decide +kernel
theorem dX0_joinAt_151 : decode cX0_joinAt 151 = .ok (.iconst 0, 1) := by decide +kernel
theorem dX0_joinAt_152 : decode cX0_joinAt 152 = .ok (.istore 5, 2) := by decide +kernel
theorem dX0_joinAt_154 : decode cX0_joinAt 154 = .ok (.iload 5, 2) := by decide +kernel
theorem dX0_joinAt_156 : decode cX0_joinAt 156 = .ok (.iconst 1, 1) := by decide +kernel
theorem dX0_joinAt_157 : decode cX0_joinAt 157 = .ok (.aload_n 0, 1) := by decide +kernel
theorem dX0_joinAt_158 : decode cX0_joinAt 158 = .ok (.getfield 35, 3) := by decide +kernel
theorem dX0_joinAt_161 : decode cX0_joinAt 161 = .ok (.ishl, 1) := by decide +kernel
theorem dX0_joinAt_162 : decode cX0_joinAt 162 = .ok (.if_icmp .ge 40, 3) := by decide +kernel
theorem dX0_joinAt_165 : decode cX0_joinAt 165 = .ok (.aload_n 0, 1) := by decide +kernel
theorem dX0_joinAt_166 : decode cX0_joinAt 166 = .ok (.getfield 7, 3) := by decide +kernel
theorem dX0_joinAt_169 : decode cX0_joinAt 169 = .ok (.iload 5, 2) := by decide +kernel
theorem dX0_joinAt_171 : decode cX0_joinAt 171 = .ok (.aload_n 0, 1) := by decide +kernel
theorem dX0_joinAt_172 : decode cX0_joinAt 172 = .ok (.getfield 7, 3) := by decide +kernel
theorem dX0_joinAt_175 : decode cX0_joinAt 175 = .ok (.iload 5, 2) := by decide +kernel
theorem dX0_joinAt_177 : decode cX0_joinAt 177 = .ok (.baload, 1) := by decide +kernel
theorem dX0_joinAt_178 : decode cX0_joinAt 178 = .ok (.iload 4, 2) := by decide +kernel
theorem dX0_joinAt_180 : decode cX0_joinAt 180 = .ok (.if_icmp .ne 8, 3) := by decide +kernel
theorem dX0_joinAt_183 : decode cX0_joinAt 183 = .ok (.iload_n 2, 1) := by decide +kernel
theorem dX0_joinAt_184 : decode cX0_joinAt 184 = .ok (.i2b, 1) := by decide +kernel
theorem dX0_joinAt_185 : decode cX0_joinAt 185 = .ok (.goto 10, 3) := by decide +kernel
theorem dX0_joinAt_188 : decode cX0_joinAt 188 = .ok (.aload_n 0, 1) := by decide +kernel
theorem dX0_joinAt_189 : decode cX0_joinAt 189 = .ok (.getfield 7, 3) := by decide +kernel
theorem dX0_joinAt_192 : decode cX0_joinAt 192 = .ok (.iload 5, 2) := by decide +kernel
theorem dX0_joinAt_194 : decode cX0_joinAt 194 = .ok (.baload, 1) := by decide +kernel
theorem dX0_joinAt_195 : decode cX0_joinAt 195 = .ok (.bastore, 1) := by decide +kernel
theorem dX0_joinAt_196 : decode cX0_joinAt 196 = .ok (.iinc 5 1, 3) := by decide +kernel
theorem dX0_joinAt_199 : decode cX0_joinAt 199 = .ok (.goto (-45), 3) := by decide +kernel
theorem dX0_joinAt_202 : decode cX0_joinAt 202 = .ok (.iconst 1, 1) := by decide +kernel
theorem dX0_joinAt_203 : decode cX0_joinAt 203 = .ok (.ireturn, 1) := by decide +kernel
abbrev cX0_deepest : ByteArray := prog_1_method_17_code
def yX0_deepest : MethodName := ⟨RX0, "deepest", "()I"⟩
theorem dX0_deepest_0 : decode cX0_deepest 0 = .ok (.iconst 0, 1) := by decide +kernel
theorem dX0_deepest_1 : decode cX0_deepest 1 = .ok (.istore_n 1, 1) := by decide +kernel
theorem dX0_deepest_2 : decode cX0_deepest 2 = .ok (.iconst 0, 1) := by decide +kernel
theorem dX0_deepest_3 : decode cX0_deepest 3 = .ok (.istore_n 2, 1) := by decide +kernel
theorem dX0_deepest_4 : decode cX0_deepest 4 = .ok (.iload_n 2, 1) := by decide +kernel
theorem dX0_deepest_5 : decode cX0_deepest 5 = .ok (.bipush 64, 2) := by decide +kernel
theorem dX0_deepest_7 : decode cX0_deepest 7 = .ok (.if_icmp .ge 39, 3) := by decide +kernel
theorem dX0_deepest_10 : decode cX0_deepest 10 = .ok (.aload_n 0, 1) := by decide +kernel
theorem dX0_deepest_11 : decode cX0_deepest 11 = .ok (.getfield 13, 3) := by decide +kernel
theorem dX0_deepest_14 : decode cX0_deepest 14 = .ok (.iload_n 2, 1) := by decide +kernel
theorem dX0_deepest_15 : decode cX0_deepest 15 = .ok (.baload, 1) := by decide +kernel
theorem dX0_deepest_16 : decode cX0_deepest 16 = .ok (.ifCond .eq 22, 3) := by decide +kernel
theorem dX0_deepest_19 : decode cX0_deepest 19 = .ok (.aload_n 0, 1) := by decide +kernel
theorem dX0_deepest_20 : decode cX0_deepest 20 = .ok (.getfield 17, 3) := by decide +kernel
theorem dX0_deepest_23 : decode cX0_deepest 23 = .ok (.iload_n 2, 1) := by decide +kernel
theorem dX0_deepest_24 : decode cX0_deepest 24 = .ok (.baload, 1) := by decide +kernel
theorem dX0_deepest_25 : decode cX0_deepest 25 = .ok (.iload_n 1, 1) := by decide +kernel
theorem dX0_deepest_26 : decode cX0_deepest 26 = .ok (.if_icmp .le 12, 3) := by decide +kernel
theorem dX0_deepest_29 : decode cX0_deepest 29 = .ok (.aload_n 0, 1) := by decide +kernel
theorem dX0_deepest_30 : decode cX0_deepest 30 = .ok (.getfield 17, 3) := by decide +kernel
theorem dX0_deepest_33 : decode cX0_deepest 33 = .ok (.iload_n 2, 1) := by decide +kernel
theorem dX0_deepest_34 : decode cX0_deepest 34 = .ok (.baload, 1) := by decide +kernel
theorem dX0_deepest_35 : decode cX0_deepest 35 = .ok (.goto 4, 3) := by decide +kernel
theorem dX0_deepest_38 : decode cX0_deepest 38 = .ok (.iload_n 1, 1) := by decide +kernel
theorem dX0_deepest_39 : decode cX0_deepest 39 = .ok (.istore_n 1, 1) := by decide +kernel
theorem dX0_deepest_40 : decode cX0_deepest 40 = .ok (.iinc 2 1, 3) := by decide +kernel
theorem dX0_deepest_43 : decode cX0_deepest 43 = .ok (.goto (-39), 3) := by decide +kernel
theorem dX0_deepest_46 : decode cX0_deepest 46 = .ok (.iload_n 1, 1) := by decide +kernel
theorem dX0_deepest_47 : decode cX0_deepest 47 = .ok (.ireturn, 1) := by decide +kernel
abbrev cX0_get : ByteArray := prog_1_method_14_code
def yX0_get : MethodName := ⟨RX0, "get", "(I)I"⟩
theorem dX0_get_0 : decode cX0_get 0 = .ok (.aload_n 0, 1) := by decide +kernel
theorem dX0_get_1 : decode cX0_get 1 = .ok (.iload_n 1, 1) := by decide +kernel
theorem dX0_get_2 : decode cX0_get 2 = .ok (.invokevirtual 74, 3) := by decide +kernel
theorem dX0_get_5 : decode cX0_get 5 = .ok (.ifCond .ne 5, 3) := by decide +kernel
theorem dX0_get_8 : decode cX0_get 8 = .ok (.iconst 0, 1) := by decide +kernel
theorem dX0_get_9 : decode cX0_get 9 = .ok (.ireturn, 1) := by decide +kernel
theorem dX0_get_10 : decode cX0_get 10 = .ok (.aload_n 0, 1) := by decide +kernel
theorem dX0_get_11 : decode cX0_get 11 = .ok (.iload_n 1, 1) := by decide +kernel
theorem dX0_get_12 : decode cX0_get 12 = .ok (.invokevirtual 46, 3) := by decide +kernel
theorem dX0_get_15 : decode cX0_get 15 = .ok (.istore_n 2, 1) := by decide +kernel
theorem dX0_get_16 : decode cX0_get 16 = .ok (.aload_n 0, 1) := by decide +kernel
theorem dX0_get_17 : decode cX0_get 17 = .ok (.iload_n 2, 1) := by decide +kernel
theorem dX0_get_18 : decode cX0_get 18 = .ok (.iload_n 1, 1) := by decide +kernel
theorem dX0_get_19 : decode cX0_get 19 = .ok (.invokevirtual 67, 3) := by decide +kernel
theorem dX0_get_22 : decode cX0_get 22 = .ok (.istore_n 3, 1) := by decide +kernel
theorem dX0_get_23 : decode cX0_get 23 = .ok (.iload_n 3, 1) := by decide +kernel
theorem dX0_get_24 : decode cX0_get 24 = .ok (.ifCond .ge 7, 3) := by decide +kernel
theorem dX0_get_27 : decode cX0_get 27 = .ok (.iconst 0, 1) := by decide +kernel
theorem dX0_get_28 : decode cX0_get 28 = .ok (.goto 13, 3) := by decide +kernel
theorem dX0_get_31 : decode cX0_get 31 = .ok (.aload_n 0, 1) := by decide +kernel
theorem dX0_get_32 : decode cX0_get 32 = .ok (.getfield 27, 3) := by decide +kernel
theorem dX0_get_35 : decode cX0_get 35 = .ok (.iload_n 2, 1) := by decide +kernel
theorem dX0_get_36 : decode cX0_get 36 = .ok (.iconst 5, 1) := by decide +kernel
theorem dX0_get_37 : decode cX0_get 37 = .ok (.imul, 1) := by decide +kernel
theorem dX0_get_38 : decode cX0_get 38 = .ok (.iload_n 3, 1) := by decide +kernel
theorem dX0_get_39 : decode cX0_get 39 = .ok (.iadd, 1) := by decide +kernel
theorem dX0_get_40 : decode cX0_get 40 = .ok (.iaload, 1) := by decide +kernel
theorem dX0_get_41 : decode cX0_get 41 = .ok (.ireturn, 1) := by decide +kernel
end
section
set_option maxRecDepth 100000
abbrev cX0_size : ByteArray := prog_1_method_15_code
def yX0_size : MethodName := ⟨RX0, "size", "()I"⟩
theorem dX0_size_0 : decode cX0_size 0 = .ok (.aload_n 0, 1) := by decide +kernel
theorem dX0_size_1 : decode cX0_size 1 = .ok (.getfield 50, 3) := by decide +kernel
theorem dX0_size_4 : decode cX0_size 4 = .ok (.ireturn, 1) := by decide +kernel
abbrev cX0_buckets : ByteArray := prog_1_method_16_code
def yX0_buckets : MethodName := ⟨RX0, "buckets", "()I"⟩
theorem dX0_buckets_0 : decode cX0_buckets 0 = .ok (.aload_n 0, 1) := by decide +kernel
theorem dX0_buckets_1 : decode cX0_buckets 1 = .ok (.getfield 31, 3) := by decide +kernel
theorem dX0_buckets_4 : decode cX0_buckets 4 = .ok (.ireturn, 1) := by decide +kernel
abbrev cX0_depthOf : ByteArray := prog_1_method_18_code
def yX0_depthOf : MethodName := ⟨RX0, "depthOf", "(I)I"⟩
theorem dX0_depthOf_0 : decode cX0_depthOf 0 = .ok (.iload_n 1, 1) := by decide +kernel
theorem dX0_depthOf_1 : decode cX0_depthOf 1 = .ok (.invokestatic 64, 3) := by decide +kernel
theorem dX0_depthOf_4 : decode cX0_depthOf 4 = .ok (.ifCond .ne 5, 3) := by decide +kernel
theorem dX0_depthOf_7 : decode cX0_depthOf 7 = .ok (.iconst (-1), 1) := by decide +kernel
theorem dX0_depthOf_8 : decode cX0_depthOf 8 = .ok (.ireturn, 1) := by decide +kernel
theorem dX0_depthOf_9 : decode cX0_depthOf 9 = .ok (.aload_n 0, 1) := by decide +kernel
theorem dX0_depthOf_10 : decode cX0_depthOf 10 = .ok (.iload_n 1, 1) := by decide +kernel
theorem dX0_depthOf_11 : decode cX0_depthOf 11 = .ok (.invokevirtual 46, 3) := by decide +kernel
theorem dX0_depthOf_14 : decode cX0_depthOf 14 = .ok (.istore_n 2, 1) := by decide +kernel
theorem dX0_depthOf_15 : decode cX0_depthOf 15 = .ok (.aload_n 0, 1) := by decide +kernel
theorem dX0_depthOf_16 : decode cX0_depthOf 16 = .ok (.getfield 17, 3) := by decide +kernel
theorem dX0_depthOf_19 : decode cX0_depthOf 19 = .ok (.iload_n 2, 1) := by decide +kernel
theorem dX0_depthOf_20 : decode cX0_depthOf 20 = .ok (.baload, 1) := by decide +kernel
theorem dX0_depthOf_21 : decode cX0_depthOf 21 = .ok (.ireturn, 1) := by decide +kernel
abbrev cX0_load : ByteArray := prog_1_method_19_code
def yX0_load : MethodName := ⟨RX0, "load", "(I)I"⟩
theorem dX0_load_0 : decode cX0_load 0 = .ok (.iload_n 1, 1) := by decide +kernel
theorem dX0_load_1 : decode cX0_load 1 = .ok (.invokestatic 64, 3) := by decide +kernel
theorem dX0_load_4 : decode cX0_load 4 = .ok (.ifCond .ne 5, 3) := by decide +kernel
theorem dX0_load_7 : decode cX0_load 7 = .ok (.iconst (-1), 1) := by decide +kernel
theorem dX0_load_8 : decode cX0_load 8 = .ok (.ireturn, 1) := by decide +kernel
theorem dX0_load_9 : decode cX0_load 9 = .ok (.aload_n 0, 1) := by decide +kernel
theorem dX0_load_10 : decode cX0_load 10 = .ok (.iload_n 1, 1) := by decide +kernel
theorem dX0_load_11 : decode cX0_load 11 = .ok (.invokevirtual 46, 3) := by decide +kernel
theorem dX0_load_14 : decode cX0_load 14 = .ok (.istore_n 2, 1) := by decide +kernel
theorem dX0_load_15 : decode cX0_load 15 = .ok (.aload_n 0, 1) := by decide +kernel
theorem dX0_load_16 : decode cX0_load 16 = .ok (.getfield 20, 3) := by decide +kernel
theorem dX0_load_19 : decode cX0_load 19 = .ok (.iload_n 2, 1) := by decide +kernel
theorem dX0_load_20 : decode cX0_load 20 = .ok (.baload, 1) := by decide +kernel
theorem dX0_load_21 : decode cX0_load 21 = .ok (.ireturn, 1) := by decide +kernel
abbrev cX0_inBucket : ByteArray := prog_1_method_20_code
def yX0_inBucket : MethodName := ⟨RX0, "inBucket", "(II)I"⟩
theorem dX0_inBucket_0 : decode cX0_inBucket 0 = .ok (.iload_n 1, 1) := by decide +kernel
theorem dX0_inBucket_1 : decode cX0_inBucket 1 = .ok (.invokestatic 64, 3) := by decide +kernel
theorem dX0_inBucket_4 : decode cX0_inBucket 4 = .ok (.ifCond .ne 5, 3) := by decide +kernel
theorem dX0_inBucket_7 : decode cX0_inBucket 7 = .ok (.iconst (-1), 1) := by decide +kernel
theorem dX0_inBucket_8 : decode cX0_inBucket 8 = .ok (.ireturn, 1) := by decide +kernel
theorem dX0_inBucket_9 : decode cX0_inBucket 9 = .ok (.aload_n 0, 1) := by decide +kernel
theorem dX0_inBucket_10 : decode cX0_inBucket 10 = .ok (.iload_n 1, 1) := by decide +kernel
theorem dX0_inBucket_11 : decode cX0_inBucket 11 = .ok (.invokevirtual 46, 3) := by decide +kernel
theorem dX0_inBucket_14 : decode cX0_inBucket 14 = .ok (.istore_n 3, 1) := by decide +kernel
theorem dX0_inBucket_15 : decode cX0_inBucket 15 = .ok (.iconst 0, 1) := by decide +kernel
theorem dX0_inBucket_16 : decode cX0_inBucket 16 = .ok (.istore 4, 2) := by decide +kernel
theorem dX0_inBucket_18 : decode cX0_inBucket 18 = .ok (.iload 4, 2) := by decide +kernel
theorem dX0_inBucket_20 : decode cX0_inBucket 20 = .ok (.aload_n 0, 1) := by decide +kernel
theorem dX0_inBucket_21 : decode cX0_inBucket 21 = .ok (.getfield 20, 3) := by decide +kernel
theorem dX0_inBucket_24 : decode cX0_inBucket 24 = .ok (.iload_n 3, 1) := by decide +kernel
theorem dX0_inBucket_25 : decode cX0_inBucket 25 = .ok (.baload, 1) := by decide +kernel
theorem dX0_inBucket_26 : decode cX0_inBucket 26 = .ok (.if_icmp .ge 85, 3) := by decide +kernel
theorem dX0_inBucket_29 : decode cX0_inBucket 29 = .ok (.iconst 0, 1) := by decide +kernel
theorem dX0_inBucket_30 : decode cX0_inBucket 30 = .ok (.istore 5, 2) := by decide +kernel
theorem dX0_inBucket_32 : decode cX0_inBucket 32 = .ok (.iconst 0, 1) := by decide +kernel
theorem dX0_inBucket_33 : decode cX0_inBucket 33 = .ok (.istore 6, 2) := by decide +kernel
theorem dX0_inBucket_35 : decode cX0_inBucket 35 = .ok (.iload 6, 2) := by decide +kernel
theorem dX0_inBucket_37 : decode cX0_inBucket 37 = .ok (.aload_n 0, 1) := by decide +kernel
theorem dX0_inBucket_38 : decode cX0_inBucket 38 = .ok (.getfield 20, 3) := by decide +kernel
theorem dX0_inBucket_41 : decode cX0_inBucket 41 = .ok (.iload_n 3, 1) := by decide +kernel
theorem dX0_inBucket_42 : decode cX0_inBucket 42 = .ok (.baload, 1) := by decide +kernel
theorem dX0_inBucket_43 : decode cX0_inBucket 43 = .ok (.if_icmp .ge 44, 3) := by decide +kernel
theorem dX0_inBucket_46 : decode cX0_inBucket 46 = .ok (.iload 5, 2) := by decide +kernel
theorem dX0_inBucket_48 : decode cX0_inBucket 48 = .ok (.aload_n 0, 1) := by decide +kernel
theorem dX0_inBucket_49 : decode cX0_inBucket 49 = .ok (.getfield 23, 3) := by decide +kernel
theorem dX0_inBucket_52 : decode cX0_inBucket 52 = .ok (.iload_n 3, 1) := by decide +kernel
theorem dX0_inBucket_53 : decode cX0_inBucket 53 = .ok (.iconst 5, 1) := by decide +kernel
theorem dX0_inBucket_54 : decode cX0_inBucket 54 = .ok (.imul, 1) := by decide +kernel
theorem dX0_inBucket_55 : decode cX0_inBucket 55 = .ok (.iload 6, 2) := by decide +kernel
theorem dX0_inBucket_57 : decode cX0_inBucket 57 = .ok (.iadd, 1) := by decide +kernel
theorem dX0_inBucket_58 : decode cX0_inBucket 58 = .ok (.saload, 1) := by decide +kernel
theorem dX0_inBucket_59 : decode cX0_inBucket 59 = .ok (.aload_n 0, 1) := by decide +kernel
theorem dX0_inBucket_60 : decode cX0_inBucket 60 = .ok (.getfield 23, 3) := by decide +kernel
theorem dX0_inBucket_63 : decode cX0_inBucket 63 = .ok (.iload_n 3, 1) := by decide +kernel
theorem dX0_inBucket_64 : decode cX0_inBucket 64 = .ok (.iconst 5, 1) := by decide +kernel
theorem dX0_inBucket_65 : decode cX0_inBucket 65 = .ok (.imul, 1) := by decide +kernel
theorem dX0_inBucket_66 : decode cX0_inBucket 66 = .ok (.iload 4, 2) := by decide +kernel
theorem dX0_inBucket_68 : decode cX0_inBucket 68 = .ok (.iadd, 1) := by decide +kernel
theorem dX0_inBucket_69 : decode cX0_inBucket 69 = .ok (.saload, 1) := by decide +kernel
theorem dX0_inBucket_70 : decode cX0_inBucket 70 = .ok (.if_icmp .ge 7, 3) := by decide +kernel
theorem dX0_inBucket_73 : decode cX0_inBucket 73 = .ok (.iconst 1, 1) := by decide +kernel
theorem dX0_inBucket_74 : decode cX0_inBucket 74 = .ok (.goto 4, 3) := by decide +kernel
theorem dX0_inBucket_77 : decode cX0_inBucket 77 = .ok (.iconst 0, 1) := by decide +kernel
theorem dX0_inBucket_78 : decode cX0_inBucket 78 = .ok (.iadd, 1) := by decide +kernel
theorem dX0_inBucket_79 : decode cX0_inBucket 79 = .ok (.istore 5, 2) := by decide +kernel
theorem dX0_inBucket_81 : decode cX0_inBucket 81 = .ok (.iinc 6 1, 3) := by decide +kernel
theorem dX0_inBucket_84 : decode cX0_inBucket 84 = .ok (.goto (-49), 3) := by decide +kernel
theorem dX0_inBucket_87 : decode cX0_inBucket 87 = .ok (.iload 5, 2) := by decide +kernel
theorem dX0_inBucket_89 : decode cX0_inBucket 89 = .ok (.iload_n 2, 1) := by decide +kernel
theorem dX0_inBucket_90 : decode cX0_inBucket 90 = .ok (.if_icmp .ne 15, 3) := by decide +kernel
theorem dX0_inBucket_93 : decode cX0_inBucket 93 = .ok (.aload_n 0, 1) := by decide +kernel
theorem dX0_inBucket_94 : decode cX0_inBucket 94 = .ok (.getfield 23, 3) := by decide +kernel
theorem dX0_inBucket_97 : decode cX0_inBucket 97 = .ok (.iload_n 3, 1) := by decide +kernel
theorem dX0_inBucket_98 : decode cX0_inBucket 98 = .ok (.iconst 5, 1) := by decide +kernel
theorem dX0_inBucket_99 : decode cX0_inBucket 99 = .ok (.imul, 1) := by decide +kernel
theorem dX0_inBucket_100 : decode cX0_inBucket 100 = .ok (.iload 4, 2) := by decide +kernel
theorem dX0_inBucket_102 : decode cX0_inBucket 102 = .ok (.iadd, 1) := by decide +kernel
theorem dX0_inBucket_103 : decode cX0_inBucket 103 = .ok (.saload, 1) := by decide +kernel
theorem dX0_inBucket_104 : decode cX0_inBucket 104 = .ok (.ireturn, 1) := by decide +kernel
theorem dX0_inBucket_105 : decode cX0_inBucket 105 = .ok (.iinc 4 1, 3) := by decide +kernel
theorem dX0_inBucket_108 : decode cX0_inBucket 108 = .ok (.goto (-90), 3) := by decide +kernel
theorem dX0_inBucket_111 : decode cX0_inBucket 111 = .ok (.iconst (-1), 1) := by decide +kernel
theorem dX0_inBucket_112 : decode cX0_inBucket 112 = .ok (.ireturn, 1) := by decide +kernel
abbrev cX0_together : ByteArray := prog_1_method_21_code
def yX0_together : MethodName := ⟨RX0, "together", "(II)Z"⟩
theorem dX0_together_0 : decode cX0_together 0 = .ok (.iload_n 1, 1) := by decide +kernel
theorem dX0_together_1 : decode cX0_together 1 = .ok (.invokestatic 64, 3) := by decide +kernel
theorem dX0_together_4 : decode cX0_together 4 = .ok (.ifCond .eq 10, 3) := by decide +kernel
theorem dX0_together_7 : decode cX0_together 7 = .ok (.iload_n 2, 1) := by decide +kernel
theorem dX0_together_8 : decode cX0_together 8 = .ok (.invokestatic 64, 3) := by decide +kernel
theorem dX0_together_11 : decode cX0_together 11 = .ok (.ifCond .ne 5, 3) := by decide +kernel
theorem dX0_together_14 : decode cX0_together 14 = .ok (.iconst 0, 1) := by decide +kernel
theorem dX0_together_15 : decode cX0_together 15 = .ok (.ireturn, 1) := by decide +kernel
theorem dX0_together_16 : decode cX0_together 16 = .ok (.aload_n 0, 1) := by decide +kernel
theorem dX0_together_17 : decode cX0_together 17 = .ok (.iload_n 1, 1) := by decide +kernel
theorem dX0_together_18 : decode cX0_together 18 = .ok (.invokevirtual 46, 3) := by decide +kernel
theorem dX0_together_21 : decode cX0_together 21 = .ok (.istore_n 3, 1) := by decide +kernel
theorem dX0_together_22 : decode cX0_together 22 = .ok (.iload_n 3, 1) := by decide +kernel
theorem dX0_together_23 : decode cX0_together 23 = .ok (.aload_n 0, 1) := by decide +kernel
theorem dX0_together_24 : decode cX0_together 24 = .ok (.iload_n 2, 1) := by decide +kernel
theorem dX0_together_25 : decode cX0_together 25 = .ok (.invokevirtual 46, 3) := by decide +kernel
theorem dX0_together_28 : decode cX0_together 28 = .ok (.if_icmp .ne 7, 3) := by decide +kernel
theorem dX0_together_31 : decode cX0_together 31 = .ok (.iconst 1, 1) := by decide +kernel
theorem dX0_together_32 : decode cX0_together 32 = .ok (.goto 4, 3) := by decide +kernel
theorem dX0_together_35 : decode cX0_together 35 = .ok (.iconst 0, 1) := by decide +kernel
theorem dX0_together_36 : decode cX0_together 36 = .ok (.ireturn, 1) := by decide +kernel
abbrev cX0_ofDepth : ByteArray := prog_1_method_22_code
def yX0_ofDepth : MethodName := ⟨RX0, "ofDepth", "(I)I"⟩
theorem dX0_ofDepth_0 : decode cX0_ofDepth 0 = .ok (.iconst 0, 1) := by decide +kernel
theorem dX0_ofDepth_1 : decode cX0_ofDepth 1 = .ok (.istore_n 2, 1) := by decide +kernel
theorem dX0_ofDepth_2 : decode cX0_ofDepth 2 = .ok (.iconst 0, 1) := by decide +kernel
theorem dX0_ofDepth_3 : decode cX0_ofDepth 3 = .ok (.istore_n 3, 1) := by decide +kernel
theorem dX0_ofDepth_4 : decode cX0_ofDepth 4 = .ok (.iload_n 3, 1) := by decide +kernel
theorem dX0_ofDepth_5 : decode cX0_ofDepth 5 = .ok (.bipush 64, 2) := by decide +kernel
theorem dX0_ofDepth_7 : decode cX0_ofDepth 7 = .ok (.if_icmp .ge 36, 3) := by decide +kernel
theorem dX0_ofDepth_10 : decode cX0_ofDepth 10 = .ok (.iload_n 2, 1) := by decide +kernel
theorem dX0_ofDepth_11 : decode cX0_ofDepth 11 = .ok (.aload_n 0, 1) := by decide +kernel
theorem dX0_ofDepth_12 : decode cX0_ofDepth 12 = .ok (.getfield 13, 3) := by decide +kernel
theorem dX0_ofDepth_15 : decode cX0_ofDepth 15 = .ok (.iload_n 3, 1) := by decide +kernel
theorem dX0_ofDepth_16 : decode cX0_ofDepth 16 = .ok (.baload, 1) := by decide +kernel
theorem dX0_ofDepth_17 : decode cX0_ofDepth 17 = .ok (.ifCond .eq 17, 3) := by decide +kernel
theorem dX0_ofDepth_20 : decode cX0_ofDepth 20 = .ok (.aload_n 0, 1) := by decide +kernel
theorem dX0_ofDepth_21 : decode cX0_ofDepth 21 = .ok (.getfield 17, 3) := by decide +kernel
theorem dX0_ofDepth_24 : decode cX0_ofDepth 24 = .ok (.iload_n 3, 1) := by decide +kernel
theorem dX0_ofDepth_25 : decode cX0_ofDepth 25 = .ok (.baload, 1) := by decide +kernel
theorem dX0_ofDepth_26 : decode cX0_ofDepth 26 = .ok (.iload_n 1, 1) := by decide +kernel
theorem dX0_ofDepth_27 : decode cX0_ofDepth 27 = .ok (.if_icmp .ne 7, 3) := by decide +kernel
theorem dX0_ofDepth_30 : decode cX0_ofDepth 30 = .ok (.iconst 1, 1) := by decide +kernel
theorem dX0_ofDepth_31 : decode cX0_ofDepth 31 = .ok (.goto 4, 3) := by decide +kernel
theorem dX0_ofDepth_34 : decode cX0_ofDepth 34 = .ok (.iconst 0, 1) := by decide +kernel
theorem dX0_ofDepth_35 : decode cX0_ofDepth 35 = .ok (.iadd, 1) := by decide +kernel
theorem dX0_ofDepth_36 : decode cX0_ofDepth 36 = .ok (.istore_n 2, 1) := by decide +kernel
theorem dX0_ofDepth_37 : decode cX0_ofDepth 37 = .ok (.iinc 3 1, 3) := by decide +kernel
theorem dX0_ofDepth_40 : decode cX0_ofDepth 40 = .ok (.goto (-36), 3) := by decide +kernel
theorem dX0_ofDepth_43 : decode cX0_ofDepth 43 = .ok (.iload_n 2, 1) := by decide +kernel
theorem dX0_ofDepth_44 : decode cX0_ofDepth 44 = .ok (.ireturn, 1) := by decide +kernel
abbrev cX0_next : ByteArray := prog_1_method_23_code
def yX0_next : MethodName := ⟨RX0, "next", "(I)I"⟩
theorem dX0_next_0 : decode cX0_next 0 = .ok (.iload_n 1, 1) := by decide +kernel
theorem dX0_next_1 : decode cX0_next 1 = .ok (.ifCond .ge 7, 3) := by decide +kernel
theorem dX0_next_4 : decode cX0_next 4 = .ok (.iconst 0, 1) := by decide +kernel
theorem dX0_next_5 : decode cX0_next 5 = .ok (.goto 4, 3) := by decide +kernel
theorem dX0_next_8 : decode cX0_next 8 = .ok (.iload_n 1, 1) := by decide +kernel
theorem dX0_next_9 : decode cX0_next 9 = .ok (.istore_n 2, 1) := by decide +kernel
theorem dX0_next_10 : decode cX0_next 10 = .ok (.iload_n 2, 1) := by decide +kernel
theorem dX0_next_11 : decode cX0_next 11 = .ok (.sipush 256, 3) := by decide +kernel
theorem dX0_next_14 : decode cX0_next 14 = .ok (.if_icmp .ge 19, 3) := by decide +kernel
theorem dX0_next_17 : decode cX0_next 17 = .ok (.aload_n 0, 1) := by decide +kernel
theorem dX0_next_18 : decode cX0_next 18 = .ok (.iload_n 2, 1) := by decide +kernel
theorem dX0_next_19 : decode cX0_next 19 = .ok (.invokevirtual 74, 3) := by decide +kernel
theorem dX0_next_22 : decode cX0_next 22 = .ok (.ifCond .eq 5, 3) := by decide +kernel
theorem dX0_next_25 : decode cX0_next 25 = .ok (.iload_n 2, 1) := by decide +kernel
theorem dX0_next_26 : decode cX0_next 26 = .ok (.ireturn, 1) := by decide +kernel
theorem dX0_next_27 : decode cX0_next 27 = .ok (.iinc 2 1, 3) := by decide +kernel
theorem dX0_next_30 : decode cX0_next 30 = .ok (.goto (-20), 3) := by decide +kernel
theorem dX0_next_33 : decode cX0_next 33 = .ok (.iconst (-1), 1) := by decide +kernel
theorem dX0_next_34 : decode cX0_next 34 = .ok (.ireturn, 1) := by decide +kernel
abbrev cX0_growth : ByteArray := prog_1_method_24_code
def yX0_growth : MethodName := ⟨RX0, "growth", "(I)I"⟩
theorem dX0_growth_0 : decode cX0_growth 0 = .ok (.iload_n 1, 1) := by decide +kernel
theorem dX0_growth_1 : decode cX0_growth 1 = .ok (.invokestatic 64, 3) := by decide +kernel
theorem dX0_growth_4 : decode cX0_growth 4 = .ok (.ifCond .ne 5, 3) := by decide +kernel
theorem dX0_growth_7 : decode cX0_growth 7 = .ok (.iconst (-1), 1) := by decide +kernel
theorem dX0_growth_8 : decode cX0_growth 8 = .ok (.ireturn, 1) := by decide +kernel
theorem dX0_growth_9 : decode cX0_growth 9 = .ok (.aload_n 0, 1) := by decide +kernel
theorem dX0_growth_10 : decode cX0_growth 10 = .ok (.iload_n 1, 1) := by decide +kernel
theorem dX0_growth_11 : decode cX0_growth 11 = .ok (.invokevirtual 74, 3) := by decide +kernel
theorem dX0_growth_14 : decode cX0_growth 14 = .ok (.ifCond .eq 5, 3) := by decide +kernel
theorem dX0_growth_17 : decode cX0_growth 17 = .ok (.iconst 0, 1) := by decide +kernel
theorem dX0_growth_18 : decode cX0_growth 18 = .ok (.ireturn, 1) := by decide +kernel
theorem dX0_growth_19 : decode cX0_growth 19 = .ok (.aload_n 0, 1) := by decide +kernel
theorem dX0_growth_20 : decode cX0_growth 20 = .ok (.getfield 31, 3) := by decide +kernel
theorem dX0_growth_23 : decode cX0_growth 23 = .ok (.istore_n 2, 1) := by decide +kernel
theorem dX0_growth_24 : decode cX0_growth 24 = .ok (.aload_n 0, 1) := by decide +kernel
theorem dX0_growth_25 : decode cX0_growth 25 = .ok (.iload_n 1, 1) := by decide +kernel
theorem dX0_growth_26 : decode cX0_growth 26 = .ok (.iconst 0, 1) := by decide +kernel
theorem dX0_growth_27 : decode cX0_growth 27 = .ok (.invokevirtual 71, 3) := by decide +kernel
theorem dX0_growth_30 : decode cX0_growth 30 = .ok (.aload_n 0, 1) := by decide +kernel
theorem dX0_growth_31 : decode cX0_growth 31 = .ok (.getfield 31, 3) := by decide +kernel
theorem dX0_growth_34 : decode cX0_growth 34 = .ok (.istore_n 3, 1) := by decide +kernel
theorem dX0_growth_35 : decode cX0_growth 35 = .ok (.aload_n 0, 1) := by decide +kernel
theorem dX0_growth_36 : decode cX0_growth 36 = .ok (.iload_n 1, 1) := by decide +kernel
theorem dX0_growth_37 : decode cX0_growth 37 = .ok (.invokevirtual 80, 3) := by decide +kernel
theorem dX0_growth_40 : decode cX0_growth 40 = .ok (.pop, 1) := by decide +kernel
theorem dX0_growth_41 : decode cX0_growth 41 = .ok (.iload_n 3, 1) := by decide +kernel
theorem dX0_growth_42 : decode cX0_growth 42 = .ok (.iload_n 2, 1) := by decide +kernel
theorem dX0_growth_43 : decode cX0_growth 43 = .ok (.isub, 1) := by decide +kernel
theorem dX0_growth_44 : decode cX0_growth 44 = .ok (.ireturn, 1) := by decide +kernel
theorem q13 : (Jvm.Cond.initialized "SplitDirectory") ∈ lw_all := lw_g (lw_at lw_m0 1 rfl) rfl
theorem q16 : (Jvm.Cond.instantiable "SplitDirectory" (9 : Nat)) ∈ lw_all := lw_g (lw_at lw_m0 4 rfl) rfl
theorem q18 : (Jvm.Cond.instanceMethod ({ cls := "SplitDirectory", name := "<init>", desc := "()V" } : Jvm.MethodName)) ∈ lw_all := lw_g (lw_at lw_m0 6 rfl) rfl
theorem q19 : (Jvm.Cond.code ({ cls := "SplitDirectory", name := "<init>", desc := "()V" } : Jvm.MethodName) prog_1_method_1_code (1 : Nat) (Option.none : Option Jvm.ClassFile.FieldType)) ∈ lw_all := lw_g (lw_at lw_m0 7 rfl) rfl
theorem q20 : (Jvm.Cond.methodLink "SplitDirectory" (1 : Nat) ({ cls := "java/lang/Object", name := "<init>", desc := "()V" } : Jvm.MethodName)) ∈ lw_all := lw_g (lw_at lw_m0 8 rfl) rfl
theorem q23 : (Jvm.Cond.fieldLink "SplitDirectory" (35 : Nat) "SplitDirectory" "depth" "I") ∈ lw_all := lw_g (lw_at lw_m0 11 rfl) rfl
theorem q24 : (Jvm.Cond.fieldLink "SplitDirectory" (7 : Nat) "SplitDirectory" "directory" "[B") ∈ lw_all := lw_g (lw_at lw_m0 12 rfl) rfl
theorem q25 : (Jvm.Cond.fieldLink "SplitDirectory" (13 : Nat) "SplitDirectory" "used" "[Z") ∈ lw_all := lw_g (lw_at lw_m0 13 rfl) rfl
theorem q26 : (Jvm.Cond.fieldLink "SplitDirectory" (17 : Nat) "SplitDirectory" "depths" "[B") ∈ lw_all := lw_g (lw_at lw_m0 14 rfl) rfl
theorem q27 : (Jvm.Cond.fieldLink "SplitDirectory" (20 : Nat) "SplitDirectory" "loads" "[B") ∈ lw_all := lw_g (lw_at lw_m0 15 rfl) rfl
theorem q28 : (Jvm.Cond.fieldLink "SplitDirectory" (23 : Nat) "SplitDirectory" "keys" "[S") ∈ lw_all := lw_g (lw_at lw_m0 16 rfl) rfl
theorem q29 : (Jvm.Cond.fieldLink "SplitDirectory" (27 : Nat) "SplitDirectory" "values" "[I") ∈ lw_all := lw_g (lw_at lw_m0 17 rfl) rfl
theorem q30 : (Jvm.Cond.fieldLink "SplitDirectory" (31 : Nat) "SplitDirectory" "bucketCount" "I") ∈ lw_all := lw_g (lw_at lw_m0 18 rfl) rfl
theorem q31 : (Jvm.Cond.fieldLink "SplitDirectory" (50 : Nat) "SplitDirectory" "keyCount" "I") ∈ lw_all := lw_g (lw_at lw_m0 19 rfl) rfl
theorem q32 : (Jvm.Cond.lays "SplitDirectory" "SplitDirectory" "depth" "I") ∈ lw_all := lw_g (lw_at lw_m0 20 rfl) rfl
theorem q33 : (Jvm.Cond.soleField "SplitDirectory" "depth") ∈ lw_all := lw_g (lw_at lw_m0 21 rfl) rfl
theorem q34 : (Jvm.Cond.laysFinal "SplitDirectory" "SplitDirectory" "directory" "[B") ∈ lw_all := lw_g (lw_at lw_m0 22 rfl) rfl
theorem q35 : (Jvm.Cond.soleField "SplitDirectory" "directory") ∈ lw_all := lw_g (lw_at lw_m0 23 rfl) rfl
theorem q36 : (Jvm.Cond.laysFinal "SplitDirectory" "SplitDirectory" "used" "[Z") ∈ lw_all := lw_g (lw_at lw_m0 24 rfl) rfl
theorem q37 : (Jvm.Cond.soleField "SplitDirectory" "used") ∈ lw_all := lw_g (lw_at lw_m0 25 rfl) rfl
theorem q38 : (Jvm.Cond.laysFinal "SplitDirectory" "SplitDirectory" "depths" "[B") ∈ lw_all := lw_g (lw_at lw_m0 26 rfl) rfl
theorem q39 : (Jvm.Cond.soleField "SplitDirectory" "depths") ∈ lw_all := lw_g (lw_at lw_m0 27 rfl) rfl
theorem q40 : (Jvm.Cond.laysFinal "SplitDirectory" "SplitDirectory" "loads" "[B") ∈ lw_all := lw_g (lw_at lw_m0 28 rfl) rfl
theorem q41 : (Jvm.Cond.soleField "SplitDirectory" "loads") ∈ lw_all := lw_g (lw_at lw_m0 29 rfl) rfl
theorem q42 : (Jvm.Cond.laysFinal "SplitDirectory" "SplitDirectory" "keys" "[S") ∈ lw_all := lw_g (lw_at lw_m0 30 rfl) rfl
theorem q43 : (Jvm.Cond.soleField "SplitDirectory" "keys") ∈ lw_all := lw_g (lw_at lw_m0 31 rfl) rfl
theorem q44 : (Jvm.Cond.laysFinal "SplitDirectory" "SplitDirectory" "values" "[I") ∈ lw_all := lw_g (lw_at lw_m0 32 rfl) rfl
theorem q45 : (Jvm.Cond.soleField "SplitDirectory" "values") ∈ lw_all := lw_g (lw_at lw_m0 33 rfl) rfl
theorem q46 : (Jvm.Cond.lays "SplitDirectory" "SplitDirectory" "bucketCount" "I") ∈ lw_all := lw_g (lw_at lw_m0 34 rfl) rfl
theorem q47 : (Jvm.Cond.soleField "SplitDirectory" "bucketCount") ∈ lw_all := lw_g (lw_at lw_m0 35 rfl) rfl
theorem q48 : (Jvm.Cond.lays "SplitDirectory" "SplitDirectory" "keyCount" "I") ∈ lw_all := lw_g (lw_at lw_m0 36 rfl) rfl
theorem q49 : (Jvm.Cond.soleField "SplitDirectory" "keyCount") ∈ lw_all := lw_g (lw_at lw_m0 37 rfl) rfl
theorem q50 : (Jvm.Cond.superclass "SplitDirectory" "java/lang/Object") ∈ lw_all := lw_g (lw_at lw_m0 38 rfl) rfl
theorem q56 : (Jvm.Cond.instanceMethod ({ cls := "SplitDirectory", name := "put", desc := "(II)I" } : Jvm.MethodName)) ∈ lw_all := lw_g (lw_at lw_m0 44 rfl) rfl
theorem q57 : (Jvm.Cond.selects "SplitDirectory" ({ cls := "SplitDirectory", name := "put", desc := "(II)I" } : Jvm.MethodName) ({ cls := "SplitDirectory", name := "put", desc := "(II)I" } : Jvm.MethodName)) ∈ lw_all := lw_g (lw_at lw_m0 45 rfl) rfl
theorem q58 : (Jvm.Cond.code ({ cls := "SplitDirectory", name := "put", desc := "(II)I" } : Jvm.MethodName) prog_1_method_11_code (5 : Nat) (Option.some Jvm.ClassFile.FieldType.int)) ∈ lw_all := lw_g (lw_at lw_m0 46 rfl) rfl
theorem q59 : (Jvm.Cond.methodLink "SplitDirectory" (64 : Nat) ({ cls := "SplitDirectory", name := "isKey", desc := "(I)Z" } : Jvm.MethodName)) ∈ lw_all := lw_g (lw_at lw_m0 47 rfl) rfl
theorem q60 : (Jvm.Cond.static ({ cls := "SplitDirectory", name := "isKey", desc := "(I)Z" } : Jvm.MethodName)) ∈ lw_all := lw_g (lw_at lw_m0 48 rfl) rfl
theorem q61 : (Jvm.Cond.code ({ cls := "SplitDirectory", name := "isKey", desc := "(I)Z" } : Jvm.MethodName) prog_1_method_2_code (1 : Nat) (Option.some Jvm.ClassFile.FieldType.boolean)) ∈ lw_all := lw_g (lw_at lw_m0 49 rfl) rfl
theorem q62 : (Jvm.Cond.methodLink "SplitDirectory" (46 : Nat) ({ cls := "SplitDirectory", name := "bucketOf", desc := "(I)I" } : Jvm.MethodName)) ∈ lw_all := lw_g (lw_at lw_m0 50 rfl) rfl
theorem q63 : (Jvm.Cond.privateMethod ({ cls := "SplitDirectory", name := "bucketOf", desc := "(I)I" } : Jvm.MethodName)) ∈ lw_tbl := lw_at lw_m0 51 rfl
theorem q64 : (Jvm.Cond.instanceMethod ({ cls := "SplitDirectory", name := "bucketOf", desc := "(I)I" } : Jvm.MethodName)) ∈ lw_all := lw_g (lw_at lw_m0 52 rfl) rfl
theorem q65 : (Jvm.Cond.code ({ cls := "SplitDirectory", name := "bucketOf", desc := "(I)I" } : Jvm.MethodName) prog_1_method_3_code (2 : Nat) (Option.some Jvm.ClassFile.FieldType.int)) ∈ lw_all := lw_g (lw_at lw_m0 53 rfl) rfl
theorem q66 : (Jvm.Cond.methodLink "SplitDirectory" (67 : Nat) ({ cls := "SplitDirectory", name := "find", desc := "(II)I" } : Jvm.MethodName)) ∈ lw_all := lw_g (lw_at lw_m0 54 rfl) rfl
theorem q67 : (Jvm.Cond.privateMethod ({ cls := "SplitDirectory", name := "find", desc := "(II)I" } : Jvm.MethodName)) ∈ lw_tbl := lw_at lw_m0 55 rfl
theorem q68 : (Jvm.Cond.instanceMethod ({ cls := "SplitDirectory", name := "find", desc := "(II)I" } : Jvm.MethodName)) ∈ lw_all := lw_g (lw_at lw_m0 56 rfl) rfl
theorem q69 : (Jvm.Cond.code ({ cls := "SplitDirectory", name := "find", desc := "(II)I" } : Jvm.MethodName) prog_1_method_4_code (4 : Nat) (Option.some Jvm.ClassFile.FieldType.int)) ∈ lw_all := lw_g (lw_at lw_m0 57 rfl) rfl
theorem q70 : (Jvm.Cond.methodLink "SplitDirectory" (71 : Nat) ({ cls := "SplitDirectory", name := "insert", desc := "(II)V" } : Jvm.MethodName)) ∈ lw_all := lw_g (lw_at lw_m0 58 rfl) rfl
theorem q71 : (Jvm.Cond.privateMethod ({ cls := "SplitDirectory", name := "insert", desc := "(II)V" } : Jvm.MethodName)) ∈ lw_tbl := lw_at lw_m0 59 rfl
theorem q72 : (Jvm.Cond.instanceMethod ({ cls := "SplitDirectory", name := "insert", desc := "(II)V" } : Jvm.MethodName)) ∈ lw_all := lw_g (lw_at lw_m0 60 rfl) rfl
theorem q73 : (Jvm.Cond.code ({ cls := "SplitDirectory", name := "insert", desc := "(II)V" } : Jvm.MethodName) prog_1_method_8_code (5 : Nat) (Option.none : Option Jvm.ClassFile.FieldType)) ∈ lw_all := lw_g (lw_at lw_m0 61 rfl) rfl
theorem q74 : (Jvm.Cond.methodLink "SplitDirectory" (42 : Nat) ({ cls := "SplitDirectory", name := "append", desc := "(III)V" } : Jvm.MethodName)) ∈ lw_all := lw_g (lw_at lw_m0 62 rfl) rfl
theorem q75 : (Jvm.Cond.privateMethod ({ cls := "SplitDirectory", name := "append", desc := "(III)V" } : Jvm.MethodName)) ∈ lw_tbl := lw_at lw_m0 63 rfl
theorem q76 : (Jvm.Cond.instanceMethod ({ cls := "SplitDirectory", name := "append", desc := "(III)V" } : Jvm.MethodName)) ∈ lw_all := lw_g (lw_at lw_m0 64 rfl) rfl
theorem q77 : (Jvm.Cond.code ({ cls := "SplitDirectory", name := "append", desc := "(III)V" } : Jvm.MethodName) prog_1_method_5_code (4 : Nat) (Option.none : Option Jvm.ClassFile.FieldType)) ∈ lw_all := lw_g (lw_at lw_m0 65 rfl) rfl
theorem q78 : (Jvm.Cond.methodLink "SplitDirectory" (53 : Nat) ({ cls := "SplitDirectory", name := "split", desc := "(II)V" } : Jvm.MethodName)) ∈ lw_all := lw_g (lw_at lw_m0 66 rfl) rfl
theorem q79 : (Jvm.Cond.privateMethod ({ cls := "SplitDirectory", name := "split", desc := "(II)V" } : Jvm.MethodName)) ∈ lw_tbl := lw_at lw_m0 67 rfl
theorem q80 : (Jvm.Cond.instanceMethod ({ cls := "SplitDirectory", name := "split", desc := "(II)V" } : Jvm.MethodName)) ∈ lw_all := lw_g (lw_at lw_m0 68 rfl) rfl
theorem q81 : (Jvm.Cond.code ({ cls := "SplitDirectory", name := "split", desc := "(II)V" } : Jvm.MethodName) prog_1_method_7_code (9 : Nat) (Option.none : Option Jvm.ClassFile.FieldType)) ∈ lw_all := lw_g (lw_at lw_m0 69 rfl) rfl
theorem q82 : (Jvm.Cond.methodLink "SplitDirectory" (38 : Nat) ({ cls := "SplitDirectory", name := "newBucket", desc := "()I" } : Jvm.MethodName)) ∈ lw_all := lw_g (lw_at lw_m0 70 rfl) rfl
theorem q83 : (Jvm.Cond.privateMethod ({ cls := "SplitDirectory", name := "newBucket", desc := "()I" } : Jvm.MethodName)) ∈ lw_tbl := lw_at lw_m0 71 rfl
theorem q84 : (Jvm.Cond.instanceMethod ({ cls := "SplitDirectory", name := "newBucket", desc := "()I" } : Jvm.MethodName)) ∈ lw_all := lw_g (lw_at lw_m0 72 rfl) rfl
theorem q85 : (Jvm.Cond.code ({ cls := "SplitDirectory", name := "newBucket", desc := "()I" } : Jvm.MethodName) prog_1_method_6_code (2 : Nat) (Option.some Jvm.ClassFile.FieldType.int)) ∈ lw_all := lw_g (lw_at lw_m0 73 rfl) rfl
theorem q87 : (Jvm.Cond.instanceMethod ({ cls := "SplitDirectory", name := "remove", desc := "(I)I" } : Jvm.MethodName)) ∈ lw_all := lw_g (lw_at lw_m0 75 rfl) rfl
theorem q88 : (Jvm.Cond.selects "SplitDirectory" ({ cls := "SplitDirectory", name := "remove", desc := "(I)I" } : Jvm.MethodName) ({ cls := "SplitDirectory", name := "remove", desc := "(I)I" } : Jvm.MethodName)) ∈ lw_all := lw_g (lw_at lw_m0 76 rfl) rfl
theorem q89 : (Jvm.Cond.code ({ cls := "SplitDirectory", name := "remove", desc := "(I)I" } : Jvm.MethodName) prog_1_method_12_code (4 : Nat) (Option.some Jvm.ClassFile.FieldType.int)) ∈ lw_all := lw_g (lw_at lw_m0 77 rfl) rfl
theorem q90 : (Jvm.Cond.methodLink "SplitDirectory" (74 : Nat) ({ cls := "SplitDirectory", name := "has", desc := "(I)Z" } : Jvm.MethodName)) ∈ lw_all := lw_g (lw_at lw_m0 78 rfl) rfl
theorem q91 : (Jvm.Cond.instanceMethod ({ cls := "SplitDirectory", name := "has", desc := "(I)Z" } : Jvm.MethodName)) ∈ lw_all := lw_g (lw_at lw_m0 79 rfl) rfl
theorem q92 : (Jvm.Cond.selects "SplitDirectory" ({ cls := "SplitDirectory", name := "has", desc := "(I)Z" } : Jvm.MethodName) ({ cls := "SplitDirectory", name := "has", desc := "(I)Z" } : Jvm.MethodName)) ∈ lw_all := lw_g (lw_at lw_m0 80 rfl) rfl
theorem q93 : (Jvm.Cond.code ({ cls := "SplitDirectory", name := "has", desc := "(I)Z" } : Jvm.MethodName) prog_1_method_13_code (3 : Nat) (Option.some Jvm.ClassFile.FieldType.boolean)) ∈ lw_all := lw_g (lw_at lw_m0 81 rfl) rfl
theorem q94 : (Jvm.Cond.methodLink "SplitDirectory" (77 : Nat) ({ cls := "SplitDirectory", name := "delete", desc := "(III)V" } : Jvm.MethodName)) ∈ lw_all := lw_g (lw_at lw_m0 82 rfl) rfl
theorem q95 : (Jvm.Cond.privateMethod ({ cls := "SplitDirectory", name := "delete", desc := "(III)V" } : Jvm.MethodName)) ∈ lw_tbl := lw_at lw_m0 83 rfl
theorem q96 : (Jvm.Cond.instanceMethod ({ cls := "SplitDirectory", name := "delete", desc := "(III)V" } : Jvm.MethodName)) ∈ lw_all := lw_g (lw_at lw_m0 84 rfl) rfl
theorem q97 : (Jvm.Cond.code ({ cls := "SplitDirectory", name := "delete", desc := "(III)V" } : Jvm.MethodName) prog_1_method_9_code (6 : Nat) (Option.none : Option Jvm.ClassFile.FieldType)) ∈ lw_all := lw_g (lw_at lw_m0 85 rfl) rfl
theorem q98 : (Jvm.Cond.methodLink "SplitDirectory" (57 : Nat) ({ cls := "SplitDirectory", name := "joinAt", desc := "(I)Z" } : Jvm.MethodName)) ∈ lw_all := lw_g (lw_at lw_m0 86 rfl) rfl
theorem q99 : (Jvm.Cond.privateMethod ({ cls := "SplitDirectory", name := "joinAt", desc := "(I)Z" } : Jvm.MethodName)) ∈ lw_tbl := lw_at lw_m0 87 rfl
theorem q100 : (Jvm.Cond.instanceMethod ({ cls := "SplitDirectory", name := "joinAt", desc := "(I)Z" } : Jvm.MethodName)) ∈ lw_all := lw_g (lw_at lw_m0 88 rfl) rfl
theorem q101 : (Jvm.Cond.code ({ cls := "SplitDirectory", name := "joinAt", desc := "(I)Z" } : Jvm.MethodName) prog_1_method_10_code (6 : Nat) (Option.some Jvm.ClassFile.FieldType.boolean)) ∈ lw_all := lw_g (lw_at lw_m0 89 rfl) rfl
theorem q102 : (Jvm.Cond.methodLink "SplitDirectory" (61 : Nat) ({ cls := "SplitDirectory", name := "deepest", desc := "()I" } : Jvm.MethodName)) ∈ lw_all := lw_g (lw_at lw_m0 90 rfl) rfl
theorem q103 : (Jvm.Cond.instanceMethod ({ cls := "SplitDirectory", name := "deepest", desc := "()I" } : Jvm.MethodName)) ∈ lw_all := lw_g (lw_at lw_m0 91 rfl) rfl
theorem q104 : (Jvm.Cond.selects "SplitDirectory" ({ cls := "SplitDirectory", name := "deepest", desc := "()I" } : Jvm.MethodName) ({ cls := "SplitDirectory", name := "deepest", desc := "()I" } : Jvm.MethodName)) ∈ lw_all := lw_g (lw_at lw_m0 92 rfl) rfl
theorem q105 : (Jvm.Cond.code ({ cls := "SplitDirectory", name := "deepest", desc := "()I" } : Jvm.MethodName) prog_1_method_17_code (3 : Nat) (Option.some Jvm.ClassFile.FieldType.int)) ∈ lw_all := lw_g (lw_at lw_m0 93 rfl) rfl
theorem q108 : (Jvm.Cond.instanceMethod ({ cls := "SplitDirectory", name := "get", desc := "(I)I" } : Jvm.MethodName)) ∈ lw_all := lw_g (lw_at lw_m0 96 rfl) rfl
theorem q109 : (Jvm.Cond.selects "SplitDirectory" ({ cls := "SplitDirectory", name := "get", desc := "(I)I" } : Jvm.MethodName) ({ cls := "SplitDirectory", name := "get", desc := "(I)I" } : Jvm.MethodName)) ∈ lw_all := lw_g (lw_at lw_m0 97 rfl) rfl
theorem q110 : (Jvm.Cond.code ({ cls := "SplitDirectory", name := "get", desc := "(I)I" } : Jvm.MethodName) prog_1_method_14_code (4 : Nat) (Option.some Jvm.ClassFile.FieldType.int)) ∈ lw_all := lw_g (lw_at lw_m0 98 rfl) rfl
theorem q112 : (Jvm.Cond.instanceMethod ({ cls := "SplitDirectory", name := "size", desc := "()I" } : Jvm.MethodName)) ∈ lw_all := lw_g (lw_at lw_m0 100 rfl) rfl
theorem q113 : (Jvm.Cond.selects "SplitDirectory" ({ cls := "SplitDirectory", name := "size", desc := "()I" } : Jvm.MethodName) ({ cls := "SplitDirectory", name := "size", desc := "()I" } : Jvm.MethodName)) ∈ lw_all := lw_g (lw_at lw_m0 101 rfl) rfl
theorem q114 : (Jvm.Cond.code ({ cls := "SplitDirectory", name := "size", desc := "()I" } : Jvm.MethodName) prog_1_method_15_code (1 : Nat) (Option.some Jvm.ClassFile.FieldType.int)) ∈ lw_all := lw_g (lw_at lw_m0 102 rfl) rfl
theorem q116 : (Jvm.Cond.instanceMethod ({ cls := "SplitDirectory", name := "buckets", desc := "()I" } : Jvm.MethodName)) ∈ lw_all := lw_g (lw_at lw_m0 104 rfl) rfl
theorem q117 : (Jvm.Cond.selects "SplitDirectory" ({ cls := "SplitDirectory", name := "buckets", desc := "()I" } : Jvm.MethodName) ({ cls := "SplitDirectory", name := "buckets", desc := "()I" } : Jvm.MethodName)) ∈ lw_all := lw_g (lw_at lw_m0 105 rfl) rfl
theorem q118 : (Jvm.Cond.code ({ cls := "SplitDirectory", name := "buckets", desc := "()I" } : Jvm.MethodName) prog_1_method_16_code (1 : Nat) (Option.some Jvm.ClassFile.FieldType.int)) ∈ lw_all := lw_g (lw_at lw_m0 106 rfl) rfl
theorem q121 : (Jvm.Cond.instanceMethod ({ cls := "SplitDirectory", name := "depthOf", desc := "(I)I" } : Jvm.MethodName)) ∈ lw_all := lw_g (lw_at lw_m0 109 rfl) rfl
theorem q122 : (Jvm.Cond.selects "SplitDirectory" ({ cls := "SplitDirectory", name := "depthOf", desc := "(I)I" } : Jvm.MethodName) ({ cls := "SplitDirectory", name := "depthOf", desc := "(I)I" } : Jvm.MethodName)) ∈ lw_all := lw_g (lw_at lw_m0 110 rfl) rfl
theorem q123 : (Jvm.Cond.code ({ cls := "SplitDirectory", name := "depthOf", desc := "(I)I" } : Jvm.MethodName) prog_1_method_18_code (3 : Nat) (Option.some Jvm.ClassFile.FieldType.int)) ∈ lw_all := lw_g (lw_at lw_m0 111 rfl) rfl
theorem q125 : (Jvm.Cond.instanceMethod ({ cls := "SplitDirectory", name := "load", desc := "(I)I" } : Jvm.MethodName)) ∈ lw_all := lw_g (lw_at lw_m0 113 rfl) rfl
theorem q126 : (Jvm.Cond.selects "SplitDirectory" ({ cls := "SplitDirectory", name := "load", desc := "(I)I" } : Jvm.MethodName) ({ cls := "SplitDirectory", name := "load", desc := "(I)I" } : Jvm.MethodName)) ∈ lw_all := lw_g (lw_at lw_m0 114 rfl) rfl
theorem q127 : (Jvm.Cond.code ({ cls := "SplitDirectory", name := "load", desc := "(I)I" } : Jvm.MethodName) prog_1_method_19_code (3 : Nat) (Option.some Jvm.ClassFile.FieldType.int)) ∈ lw_all := lw_g (lw_at lw_m0 115 rfl) rfl
theorem q129 : (Jvm.Cond.instanceMethod ({ cls := "SplitDirectory", name := "inBucket", desc := "(II)I" } : Jvm.MethodName)) ∈ lw_all := lw_g (lw_at lw_m0 117 rfl) rfl
theorem q130 : (Jvm.Cond.selects "SplitDirectory" ({ cls := "SplitDirectory", name := "inBucket", desc := "(II)I" } : Jvm.MethodName) ({ cls := "SplitDirectory", name := "inBucket", desc := "(II)I" } : Jvm.MethodName)) ∈ lw_all := lw_g (lw_at lw_m0 118 rfl) rfl
theorem q131 : (Jvm.Cond.code ({ cls := "SplitDirectory", name := "inBucket", desc := "(II)I" } : Jvm.MethodName) prog_1_method_20_code (7 : Nat) (Option.some Jvm.ClassFile.FieldType.int)) ∈ lw_all := lw_g (lw_at lw_m0 119 rfl) rfl
theorem q133 : (Jvm.Cond.instanceMethod ({ cls := "SplitDirectory", name := "together", desc := "(II)Z" } : Jvm.MethodName)) ∈ lw_all := lw_g (lw_at lw_m0 121 rfl) rfl
theorem q134 : (Jvm.Cond.selects "SplitDirectory" ({ cls := "SplitDirectory", name := "together", desc := "(II)Z" } : Jvm.MethodName) ({ cls := "SplitDirectory", name := "together", desc := "(II)Z" } : Jvm.MethodName)) ∈ lw_all := lw_g (lw_at lw_m0 122 rfl) rfl
theorem q135 : (Jvm.Cond.code ({ cls := "SplitDirectory", name := "together", desc := "(II)Z" } : Jvm.MethodName) prog_1_method_21_code (4 : Nat) (Option.some Jvm.ClassFile.FieldType.boolean)) ∈ lw_all := lw_g (lw_at lw_m0 123 rfl) rfl
theorem q137 : (Jvm.Cond.instanceMethod ({ cls := "SplitDirectory", name := "ofDepth", desc := "(I)I" } : Jvm.MethodName)) ∈ lw_all := lw_g (lw_at lw_m0 125 rfl) rfl
theorem q138 : (Jvm.Cond.selects "SplitDirectory" ({ cls := "SplitDirectory", name := "ofDepth", desc := "(I)I" } : Jvm.MethodName) ({ cls := "SplitDirectory", name := "ofDepth", desc := "(I)I" } : Jvm.MethodName)) ∈ lw_all := lw_g (lw_at lw_m0 126 rfl) rfl
theorem q139 : (Jvm.Cond.code ({ cls := "SplitDirectory", name := "ofDepth", desc := "(I)I" } : Jvm.MethodName) prog_1_method_22_code (4 : Nat) (Option.some Jvm.ClassFile.FieldType.int)) ∈ lw_all := lw_g (lw_at lw_m0 127 rfl) rfl
theorem q141 : (Jvm.Cond.instanceMethod ({ cls := "SplitDirectory", name := "next", desc := "(I)I" } : Jvm.MethodName)) ∈ lw_all := lw_g (lw_at lw_m0 129 rfl) rfl
theorem q142 : (Jvm.Cond.selects "SplitDirectory" ({ cls := "SplitDirectory", name := "next", desc := "(I)I" } : Jvm.MethodName) ({ cls := "SplitDirectory", name := "next", desc := "(I)I" } : Jvm.MethodName)) ∈ lw_all := lw_g (lw_at lw_m0 130 rfl) rfl
theorem q143 : (Jvm.Cond.code ({ cls := "SplitDirectory", name := "next", desc := "(I)I" } : Jvm.MethodName) prog_1_method_23_code (3 : Nat) (Option.some Jvm.ClassFile.FieldType.int)) ∈ lw_all := lw_g (lw_at lw_m0 131 rfl) rfl
theorem q145 : (Jvm.Cond.instanceMethod ({ cls := "SplitDirectory", name := "growth", desc := "(I)I" } : Jvm.MethodName)) ∈ lw_all := lw_g (lw_at lw_m0 133 rfl) rfl
theorem q146 : (Jvm.Cond.selects "SplitDirectory" ({ cls := "SplitDirectory", name := "growth", desc := "(I)I" } : Jvm.MethodName) ({ cls := "SplitDirectory", name := "growth", desc := "(I)I" } : Jvm.MethodName)) ∈ lw_all := lw_g (lw_at lw_m0 134 rfl) rfl
theorem q147 : (Jvm.Cond.code ({ cls := "SplitDirectory", name := "growth", desc := "(I)I" } : Jvm.MethodName) prog_1_method_24_code (4 : Nat) (Option.some Jvm.ClassFile.FieldType.int)) ∈ lw_all := lw_g (lw_at lw_m0 135 rfl) rfl
theorem q148 : (Jvm.Cond.methodLink "SplitDirectory" (80 : Nat) ({ cls := "SplitDirectory", name := "remove", desc := "(I)I" } : Jvm.MethodName)) ∈ lw_all := lw_g (lw_at lw_m0 136 rfl) rfl
theorem in_X0 : ∀ w ∈ wsX00, w ∈ lw_all := lw_in wsX00 [32, 34, 36, 38, 40, 42, 44, 46, 48] (by decide +kernel) (by decide +kernel)

/-! java/lang/Object -/
set_option maxRecDepth 100000
def RJ0 : String := "java/lang/Object"
abbrev cJ0_init : ByteArray := object_method_1_code
def yJ0_init : MethodName := ⟨RJ0, "<init>", "()V"⟩
theorem dJ0_init_0 : decode cJ0_init 0 = .ok (.return_, 1) := by decide +kernel
theorem q21 : (Jvm.Cond.instanceMethod ({ cls := "java/lang/Object", name := "<init>", desc := "()V" } : Jvm.MethodName)) ∈ lw_all := lw_g (lw_at lw_m0 9 rfl) rfl
theorem q22 : (Jvm.Cond.code ({ cls := "java/lang/Object", name := "<init>", desc := "()V" } : Jvm.MethodName) object_method_1_code (1 : Nat) (Option.none : Option Jvm.ClassFile.FieldType)) ∈ lw_all := lw_g (lw_at lw_m0 10 rfl) rfl

theorem q51 : (Jvm.Cond.arrayClass Jvm.ClassFile.FieldType.byte) ∈ lw_all := lw_g (lw_at lw_m0 39 rfl) rfl
set_option maxRecDepth 100000
theorem q52 : (Jvm.Cond.arrayClass Jvm.ClassFile.FieldType.boolean) ∈ lw_all := lw_g (lw_at lw_m0 40 rfl) rfl
theorem q53 : (Jvm.Cond.arrayClass Jvm.ClassFile.FieldType.short) ∈ lw_all := lw_g (lw_at lw_m0 41 rfl) rfl
theorem q54 : (Jvm.Cond.arrayClass Jvm.ClassFile.FieldType.int) ∈ lw_all := lw_g (lw_at lw_m0 42 rfl) rfl
end
section
/-! SplitDirectoryModel -/
set_option maxRecDepth 100000
def RX1 : String := "SplitDirectoryModel"
def TX1 : u_T := fun k => match k with
  | 0 => ("SplitDirectoryModel", "there", "[Z", false)
  | 1 => ("SplitDirectoryModel", "values", "[I", false)
  | _ => ("SplitDirectoryModel", "counts", "[I", false)
def tyX1 : Nat → FieldType := fun k => match k with
  | 0 => .array .boolean
  | 1 => .array .int
  | _ => .array .int
abbrev wsX10 : List Cond := u_ws RX1 TX1 3
theorem nmX1 : ∀ a, a < 3 → ∀ b, b < 3 → a ≠ b → (TX1 a).2.1 ≠ (TX1 b).2.1 := by decide +kernel
theorem tyX1_ok : ∀ k, k < 3 → parseFieldDescriptor (TX1 k).2.2.1 = some (tyX1 k) := by decide +kernel
abbrev cX1_init : ByteArray := prog_3_method_1_code
def yX1_init : MethodName := ⟨RX1, "<init>", "()V"⟩
theorem dX1_init_0 : decode cX1_init 0 = .ok (.aload_n 0, 1) := by decide +kernel
theorem dX1_init_1 : decode cX1_init 1 = .ok (.invokespecial 1, 3) := by decide +kernel
theorem dX1_init_4 : decode cX1_init 4 = .ok (.aload_n 0, 1) := by decide +kernel
theorem dX1_init_5 : decode cX1_init 5 = .ok (.sipush 256, 3) := by decide +kernel
theorem dX1_init_8 : decode cX1_init 8 = .ok (.newarray .boolean, 2) := by decide +kernel
theorem dX1_init_10 : decode cX1_init 10 = .ok (.putfield 7, 3) := by decide +kernel
theorem dX1_init_13 : decode cX1_init 13 = .ok (.aload_n 0, 1) := by decide +kernel
theorem dX1_init_14 : decode cX1_init 14 = .ok (.sipush 256, 3) := by decide +kernel
theorem dX1_init_17 : decode cX1_init 17 = .ok (.newarray .int, 2) := by decide +kernel
theorem dX1_init_19 : decode cX1_init 19 = .ok (.putfield 13, 3) := by decide +kernel
theorem dX1_init_22 : decode cX1_init 22 = .ok (.aload_n 0, 1) := by decide +kernel
theorem dX1_init_23 : decode cX1_init 23 = .ok (.sipush 511, 3) := by decide +kernel
theorem dX1_init_26 : decode cX1_init 26 = .ok (.newarray .int, 2) := by decide +kernel
theorem dX1_init_28 : decode cX1_init 28 = .ok (.putfield 17, 3) := by decide +kernel
theorem dX1_init_31 : decode cX1_init 31 = .ok (.return_, 1) := by decide +kernel
abbrev cX1_put : ByteArray := prog_3_method_6_code
def yX1_put : MethodName := ⟨RX1, "put", "(II)I"⟩
theorem dX1_put_0 : decode cX1_put 0 = .ok (.aload_n 0, 1) := by decide +kernel
theorem dX1_put_1 : decode cX1_put 1 = .ok (.iload_n 1, 1) := by decide +kernel
theorem dX1_put_2 : decode cX1_put 2 = .ok (.invokevirtual 24, 3) := by decide +kernel
theorem dX1_put_5 : decode cX1_put 5 = .ok (.ifCond .ne 5, 3) := by decide +kernel
theorem dX1_put_8 : decode cX1_put 8 = .ok (.iconst (-1), 1) := by decide +kernel
theorem dX1_put_9 : decode cX1_put 9 = .ok (.ireturn, 1) := by decide +kernel
theorem dX1_put_10 : decode cX1_put 10 = .ok (.aload_n 0, 1) := by decide +kernel
theorem dX1_put_11 : decode cX1_put 11 = .ok (.getfield 7, 3) := by decide +kernel
theorem dX1_put_14 : decode cX1_put 14 = .ok (.iload_n 1, 1) := by decide +kernel
theorem dX1_put_15 : decode cX1_put 15 = .ok (.baload, 1) := by decide +kernel
theorem dX1_put_16 : decode cX1_put 16 = .ok (.ifCond .ne 15, 3) := by decide +kernel
theorem dX1_put_19 : decode cX1_put 19 = .ok (.aload_n 0, 1) := by decide +kernel
theorem dX1_put_20 : decode cX1_put 20 = .ok (.invokevirtual 28, 3) := by decide +kernel
theorem dX1_put_23 : decode cX1_put 23 = .ok (.bipush 40, 2) := by decide +kernel
theorem dX1_put_25 : decode cX1_put 25 = .ok (.if_icmp .lt 6, 3) := by decide +kernel
theorem dX1_put_28 : decode cX1_put 28 = .ok (.bipush (-2), 2) := by decide +kernel
theorem dX1_put_30 : decode cX1_put 30 = .ok (.ireturn, 1) := by decide +kernel
theorem dX1_put_31 : decode cX1_put 31 = .ok (.aload_n 0, 1) := by decide +kernel
theorem dX1_put_32 : decode cX1_put 32 = .ok (.getfield 7, 3) := by decide +kernel
theorem dX1_put_35 : decode cX1_put 35 = .ok (.iload_n 1, 1) := by decide +kernel
theorem dX1_put_36 : decode cX1_put 36 = .ok (.iconst 1, 1) := by decide +kernel
theorem dX1_put_37 : decode cX1_put 37 = .ok (.bastore, 1) := by decide +kernel
theorem dX1_put_38 : decode cX1_put 38 = .ok (.aload_n 0, 1) := by decide +kernel
theorem dX1_put_39 : decode cX1_put 39 = .ok (.getfield 13, 3) := by decide +kernel
theorem dX1_put_42 : decode cX1_put 42 = .ok (.iload_n 1, 1) := by decide +kernel
theorem dX1_put_43 : decode cX1_put 43 = .ok (.iload_n 2, 1) := by decide +kernel
theorem dX1_put_44 : decode cX1_put 44 = .ok (.iastore, 1) := by decide +kernel
theorem dX1_put_45 : decode cX1_put 45 = .ok (.aload_n 0, 1) := by decide +kernel
theorem dX1_put_46 : decode cX1_put 46 = .ok (.invokevirtual 32, 3) := by decide +kernel
theorem dX1_put_49 : decode cX1_put 49 = .ok (.ireturn, 1) := by decide +kernel
abbrev cX1_key : ByteArray := prog_3_method_2_code
def yX1_key : MethodName := ⟨RX1, "key", "(I)Z"⟩
theorem dX1_key_0 : decode cX1_key 0 = .ok (.iload_n 1, 1) := by decide +kernel
theorem dX1_key_1 : decode cX1_key 1 = .ok (.ifCond .lt 14, 3) := by decide +kernel
theorem dX1_key_4 : decode cX1_key 4 = .ok (.iload_n 1, 1) := by decide +kernel
theorem dX1_key_5 : decode cX1_key 5 = .ok (.sipush 255, 3) := by decide +kernel
theorem dX1_key_8 : decode cX1_key 8 = .ok (.if_icmp .gt 7, 3) := by decide +kernel
theorem dX1_key_11 : decode cX1_key 11 = .ok (.iconst 1, 1) := by decide +kernel
theorem dX1_key_12 : decode cX1_key 12 = .ok (.goto 4, 3) := by decide +kernel
theorem dX1_key_15 : decode cX1_key 15 = .ok (.iconst 0, 1) := by decide +kernel
theorem dX1_key_16 : decode cX1_key 16 = .ok (.ireturn, 1) := by decide +kernel
abbrev cX1_size : ByteArray := prog_3_method_10_code
def yX1_size : MethodName := ⟨RX1, "size", "()I"⟩
theorem dX1_size_0 : decode cX1_size 0 = .ok (.iconst 0, 1) := by decide +kernel
theorem dX1_size_1 : decode cX1_size 1 = .ok (.istore_n 1, 1) := by decide +kernel
theorem dX1_size_2 : decode cX1_size 2 = .ok (.iconst 0, 1) := by decide +kernel
theorem dX1_size_3 : decode cX1_size 3 = .ok (.istore_n 2, 1) := by decide +kernel
theorem dX1_size_4 : decode cX1_size 4 = .ok (.iload_n 2, 1) := by decide +kernel
theorem dX1_size_5 : decode cX1_size 5 = .ok (.sipush 256, 3) := by decide +kernel
theorem dX1_size_8 : decode cX1_size 8 = .ok (.if_icmp .ge 26, 3) := by decide +kernel
theorem dX1_size_11 : decode cX1_size 11 = .ok (.aload_n 0, 1) := by decide +kernel
theorem dX1_size_12 : decode cX1_size 12 = .ok (.getfield 7, 3) := by decide +kernel
theorem dX1_size_15 : decode cX1_size 15 = .ok (.iload_n 2, 1) := by decide +kernel
theorem dX1_size_16 : decode cX1_size 16 = .ok (.baload, 1) := by decide +kernel
theorem dX1_size_17 : decode cX1_size 17 = .ok (.ifCond .eq 9, 3) := by decide +kernel
theorem dX1_size_20 : decode cX1_size 20 = .ok (.iload_n 1, 1) := by decide +kernel
theorem dX1_size_21 : decode cX1_size 21 = .ok (.iconst 1, 1) := by decide +kernel
theorem dX1_size_22 : decode cX1_size 22 = .ok (.iadd, 1) := by decide +kernel
theorem dX1_size_23 : decode cX1_size 23 = .ok (.goto 4, 3) := by decide +kernel
theorem dX1_size_26 : decode cX1_size 26 = .ok (.iload_n 1, 1) := by decide +kernel
theorem dX1_size_27 : decode cX1_size 27 = .ok (.istore_n 1, 1) := by decide +kernel
theorem dX1_size_28 : decode cX1_size 28 = .ok (.iinc 2 1, 3) := by decide +kernel
theorem dX1_size_31 : decode cX1_size 31 = .ok (.goto (-27), 3) := by decide +kernel
theorem dX1_size_34 : decode cX1_size 34 = .ok (.iload_n 1, 1) := by decide +kernel
theorem dX1_size_35 : decode cX1_size 35 = .ok (.ireturn, 1) := by decide +kernel
abbrev cX1_buckets : ByteArray := prog_3_method_11_code
def yX1_buckets : MethodName := ⟨RX1, "buckets", "()I"⟩
theorem dX1_buckets_0 : decode cX1_buckets 0 = .ok (.iconst 0, 1) := by decide +kernel
theorem dX1_buckets_1 : decode cX1_buckets 1 = .ok (.istore_n 1, 1) := by decide +kernel
theorem dX1_buckets_2 : decode cX1_buckets 2 = .ok (.iconst 0, 1) := by decide +kernel
theorem dX1_buckets_3 : decode cX1_buckets 3 = .ok (.istore_n 2, 1) := by decide +kernel
theorem dX1_buckets_4 : decode cX1_buckets 4 = .ok (.iload_n 2, 1) := by decide +kernel
theorem dX1_buckets_5 : decode cX1_buckets 5 = .ok (.bipush 8, 2) := by decide +kernel
theorem dX1_buckets_7 : decode cX1_buckets 7 = .ok (.if_icmp .gt 17, 3) := by decide +kernel
theorem dX1_buckets_10 : decode cX1_buckets 10 = .ok (.iload_n 1, 1) := by decide +kernel
theorem dX1_buckets_11 : decode cX1_buckets 11 = .ok (.aload_n 0, 1) := by decide +kernel
theorem dX1_buckets_12 : decode cX1_buckets 12 = .ok (.iload_n 2, 1) := by decide +kernel
theorem dX1_buckets_13 : decode cX1_buckets 13 = .ok (.invokevirtual 38, 3) := by decide +kernel
theorem dX1_buckets_16 : decode cX1_buckets 16 = .ok (.iadd, 1) := by decide +kernel
theorem dX1_buckets_17 : decode cX1_buckets 17 = .ok (.istore_n 1, 1) := by decide +kernel
theorem dX1_buckets_18 : decode cX1_buckets 18 = .ok (.iinc 2 1, 3) := by decide +kernel
theorem dX1_buckets_21 : decode cX1_buckets 21 = .ok (.goto (-17), 3) := by decide +kernel
theorem dX1_buckets_24 : decode cX1_buckets 24 = .ok (.iload_n 1, 1) := by decide +kernel
theorem dX1_buckets_25 : decode cX1_buckets 25 = .ok (.ireturn, 1) := by decide +kernel
abbrev cX1_ofDepth : ByteArray := prog_3_method_17_code
def yX1_ofDepth : MethodName := ⟨RX1, "ofDepth", "(I)I"⟩
theorem dX1_ofDepth_0 : decode cX1_ofDepth 0 = .ok (.aload_n 0, 1) := by decide +kernel
theorem dX1_ofDepth_1 : decode cX1_ofDepth 1 = .ok (.invokevirtual 42, 3) := by decide +kernel
theorem dX1_ofDepth_4 : decode cX1_ofDepth 4 = .ok (.iconst 0, 1) := by decide +kernel
theorem dX1_ofDepth_5 : decode cX1_ofDepth 5 = .ok (.istore_n 2, 1) := by decide +kernel
theorem dX1_ofDepth_6 : decode cX1_ofDepth 6 = .ok (.iconst 0, 1) := by decide +kernel
theorem dX1_ofDepth_7 : decode cX1_ofDepth 7 = .ok (.istore_n 3, 1) := by decide +kernel
theorem dX1_ofDepth_8 : decode cX1_ofDepth 8 = .ok (.iload_n 1, 1) := by decide +kernel
theorem dX1_ofDepth_9 : decode cX1_ofDepth 9 = .ok (.ifCond .lt 39, 3) := by decide +kernel
theorem dX1_ofDepth_12 : decode cX1_ofDepth 12 = .ok (.iload_n 1, 1) := by decide +kernel
theorem dX1_ofDepth_13 : decode cX1_ofDepth 13 = .ok (.bipush 8, 2) := by decide +kernel
theorem dX1_ofDepth_15 : decode cX1_ofDepth 15 = .ok (.if_icmp .gt 33, 3) := by decide +kernel
theorem dX1_ofDepth_18 : decode cX1_ofDepth 18 = .ok (.iload_n 3, 1) := by decide +kernel
theorem dX1_ofDepth_19 : decode cX1_ofDepth 19 = .ok (.iconst 1, 1) := by decide +kernel
theorem dX1_ofDepth_20 : decode cX1_ofDepth 20 = .ok (.iload_n 1, 1) := by decide +kernel
theorem dX1_ofDepth_21 : decode cX1_ofDepth 21 = .ok (.ishl, 1) := by decide +kernel
theorem dX1_ofDepth_22 : decode cX1_ofDepth 22 = .ok (.if_icmp .ge 26, 3) := by decide +kernel
theorem dX1_ofDepth_25 : decode cX1_ofDepth 25 = .ok (.aload_n 0, 1) := by decide +kernel
theorem dX1_ofDepth_26 : decode cX1_ofDepth 26 = .ok (.iload_n 3, 1) := by decide +kernel
theorem dX1_ofDepth_27 : decode cX1_ofDepth 27 = .ok (.iload_n 1, 1) := by decide +kernel
theorem dX1_ofDepth_28 : decode cX1_ofDepth 28 = .ok (.invokevirtual 45, 3) := by decide +kernel
theorem dX1_ofDepth_31 : decode cX1_ofDepth 31 = .ok (.ifCond .eq 9, 3) := by decide +kernel
theorem dX1_ofDepth_34 : decode cX1_ofDepth 34 = .ok (.iload_n 2, 1) := by decide +kernel
theorem dX1_ofDepth_35 : decode cX1_ofDepth 35 = .ok (.iconst 1, 1) := by decide +kernel
theorem dX1_ofDepth_36 : decode cX1_ofDepth 36 = .ok (.iadd, 1) := by decide +kernel
theorem dX1_ofDepth_37 : decode cX1_ofDepth 37 = .ok (.goto 4, 3) := by decide +kernel
theorem dX1_ofDepth_40 : decode cX1_ofDepth 40 = .ok (.iload_n 2, 1) := by decide +kernel
theorem dX1_ofDepth_41 : decode cX1_ofDepth 41 = .ok (.istore_n 2, 1) := by decide +kernel
theorem dX1_ofDepth_42 : decode cX1_ofDepth 42 = .ok (.iinc 3 1, 3) := by decide +kernel
theorem dX1_ofDepth_45 : decode cX1_ofDepth 45 = .ok (.goto (-37), 3) := by decide +kernel
theorem dX1_ofDepth_48 : decode cX1_ofDepth 48 = .ok (.iload_n 2, 1) := by decide +kernel
theorem dX1_ofDepth_49 : decode cX1_ofDepth 49 = .ok (.ireturn, 1) := by decide +kernel
abbrev cX1_count : ByteArray := prog_3_method_4_code
def yX1_count : MethodName := ⟨RX1, "count", "()V"⟩
theorem dX1_count_0 : decode cX1_count 0 = .ok (.iconst 0, 1) := by decide +kernel
theorem dX1_count_1 : decode cX1_count 1 = .ok (.istore_n 1, 1) := by decide +kernel
theorem dX1_count_2 : decode cX1_count 2 = .ok (.iload_n 1, 1) := by decide +kernel
theorem dX1_count_3 : decode cX1_count 3 = .ok (.sipush 511, 3) := by decide +kernel
theorem dX1_count_6 : decode cX1_count 6 = .ok (.if_icmp .ge 16, 3) := by decide +kernel
theorem dX1_count_9 : decode cX1_count 9 = .ok (.aload_n 0, 1) := by decide +kernel
theorem dX1_count_10 : decode cX1_count 10 = .ok (.getfield 17, 3) := by decide +kernel
theorem dX1_count_13 : decode cX1_count 13 = .ok (.iload_n 1, 1) := by decide +kernel
theorem dX1_count_14 : decode cX1_count 14 = .ok (.iconst 0, 1) := by decide +kernel
theorem dX1_count_15 : decode cX1_count 15 = .ok (.iastore, 1) := by decide +kernel
theorem dX1_count_16 : decode cX1_count 16 = .ok (.iinc 1 1, 3) := by decide +kernel
theorem dX1_count_19 : decode cX1_count 19 = .ok (.goto (-17), 3) := by decide +kernel
theorem dX1_count_22 : decode cX1_count 22 = .ok (.iconst 0, 1) := by decide +kernel
theorem dX1_count_23 : decode cX1_count 23 = .ok (.istore_n 1, 1) := by decide +kernel
theorem dX1_count_24 : decode cX1_count 24 = .ok (.iload_n 1, 1) := by decide +kernel
theorem dX1_count_25 : decode cX1_count 25 = .ok (.sipush 256, 3) := by decide +kernel
theorem dX1_count_28 : decode cX1_count 28 = .ok (.if_icmp .ge 49, 3) := by decide +kernel
theorem dX1_count_31 : decode cX1_count 31 = .ok (.iconst 0, 1) := by decide +kernel
theorem dX1_count_32 : decode cX1_count 32 = .ok (.istore_n 2, 1) := by decide +kernel
theorem dX1_count_33 : decode cX1_count 33 = .ok (.iload_n 2, 1) := by decide +kernel
theorem dX1_count_34 : decode cX1_count 34 = .ok (.bipush 8, 2) := by decide +kernel
theorem dX1_count_36 : decode cX1_count 36 = .ok (.if_icmp .gt 35, 3) := by decide +kernel
theorem dX1_count_39 : decode cX1_count 39 = .ok (.aload_n 0, 1) := by decide +kernel
theorem dX1_count_40 : decode cX1_count 40 = .ok (.getfield 7, 3) := by decide +kernel
theorem dX1_count_43 : decode cX1_count 43 = .ok (.iload_n 1, 1) := by decide +kernel
theorem dX1_count_44 : decode cX1_count 44 = .ok (.baload, 1) := by decide +kernel
theorem dX1_count_45 : decode cX1_count 45 = .ok (.ifCond .eq 26, 3) := by decide +kernel
theorem dX1_count_48 : decode cX1_count 48 = .ok (.aload_n 0, 1) := by decide +kernel
theorem dX1_count_49 : decode cX1_count 49 = .ok (.iload_n 1, 1) := by decide +kernel
theorem dX1_count_50 : decode cX1_count 50 = .ok (.iload_n 2, 1) := by decide +kernel
theorem dX1_count_51 : decode cX1_count 51 = .ok (.invokevirtual 20, 3) := by decide +kernel
theorem dX1_count_54 : decode cX1_count 54 = .ok (.istore_n 3, 1) := by decide +kernel
theorem dX1_count_55 : decode cX1_count 55 = .ok (.aload_n 0, 1) := by decide +kernel
theorem dX1_count_56 : decode cX1_count 56 = .ok (.getfield 17, 3) := by decide +kernel
theorem dX1_count_59 : decode cX1_count 59 = .ok (.iload_n 3, 1) := by decide +kernel
theorem dX1_count_60 : decode cX1_count 60 = .ok (.dup2, 1) := by decide +kernel
theorem dX1_count_61 : decode cX1_count 61 = .ok (.iaload, 1) := by decide +kernel
theorem dX1_count_62 : decode cX1_count 62 = .ok (.iconst 1, 1) := by decide +kernel
theorem dX1_count_63 : decode cX1_count 63 = .ok (.iadd, 1) := by decide +kernel
theorem dX1_count_64 : decode cX1_count 64 = .ok (.iastore, 1) := by decide +kernel
theorem dX1_count_65 : decode cX1_count 65 = .ok (.iinc 2 1, 3) := by decide +kernel
theorem dX1_count_68 : decode cX1_count 68 = .ok (.goto (-35), 3) := by decide +kernel
theorem dX1_count_71 : decode cX1_count 71 = .ok (.iinc 1 1, 3) := by decide +kernel
theorem dX1_count_74 : decode cX1_count 74 = .ok (.goto (-50), 3) := by decide +kernel
theorem dX1_count_77 : decode cX1_count 77 = .ok (.return_, 1) := by decide +kernel
abbrev cX1_ending : ByteArray := prog_3_method_3_code
def yX1_ending : MethodName := ⟨RX1, "ending", "(II)I"⟩
theorem dX1_ending_0 : decode cX1_ending 0 = .ok (.iconst 1, 1) := by decide +kernel
theorem dX1_ending_1 : decode cX1_ending 1 = .ok (.iload_n 2, 1) := by decide +kernel
theorem dX1_ending_2 : decode cX1_ending 2 = .ok (.ishl, 1) := by decide +kernel
theorem dX1_ending_3 : decode cX1_ending 3 = .ok (.iconst 1, 1) := by decide +kernel
theorem dX1_ending_4 : decode cX1_ending 4 = .ok (.isub, 1) := by decide +kernel
theorem dX1_ending_5 : decode cX1_ending 5 = .ok (.iload_n 1, 1) := by decide +kernel
theorem dX1_ending_6 : decode cX1_ending 6 = .ok (.iconst 1, 1) := by decide +kernel
theorem dX1_ending_7 : decode cX1_ending 7 = .ok (.iload_n 2, 1) := by decide +kernel
theorem dX1_ending_8 : decode cX1_ending 8 = .ok (.ishl, 1) := by decide +kernel
theorem dX1_ending_9 : decode cX1_ending 9 = .ok (.iconst 1, 1) := by decide +kernel
theorem dX1_ending_10 : decode cX1_ending 10 = .ok (.isub, 1) := by decide +kernel
theorem dX1_ending_11 : decode cX1_ending 11 = .ok (.iand, 1) := by decide +kernel
theorem dX1_ending_12 : decode cX1_ending 12 = .ok (.iadd, 1) := by decide +kernel
theorem dX1_ending_13 : decode cX1_ending 13 = .ok (.ireturn, 1) := by decide +kernel
abbrev cX1_isBucket : ByteArray := prog_3_method_5_code
def yX1_isBucket : MethodName := ⟨RX1, "isBucket", "(II)Z"⟩
theorem dX1_isBucket_0 : decode cX1_isBucket 0 = .ok (.aload_n 0, 1) := by decide +kernel
theorem dX1_isBucket_1 : decode cX1_isBucket 1 = .ok (.getfield 17, 3) := by decide +kernel
theorem dX1_isBucket_4 : decode cX1_isBucket 4 = .ok (.aload_n 0, 1) := by decide +kernel
theorem dX1_isBucket_5 : decode cX1_isBucket 5 = .ok (.iload_n 1, 1) := by decide +kernel
theorem dX1_isBucket_6 : decode cX1_isBucket 6 = .ok (.iload_n 2, 1) := by decide +kernel
theorem dX1_isBucket_7 : decode cX1_isBucket 7 = .ok (.invokevirtual 20, 3) := by decide +kernel
theorem dX1_isBucket_10 : decode cX1_isBucket 10 = .ok (.iaload, 1) := by decide +kernel
theorem dX1_isBucket_11 : decode cX1_isBucket 11 = .ok (.iconst 4, 1) := by decide +kernel
theorem dX1_isBucket_12 : decode cX1_isBucket 12 = .ok (.if_icmp .gt 28, 3) := by decide +kernel
theorem dX1_isBucket_15 : decode cX1_isBucket 15 = .ok (.iload_n 2, 1) := by decide +kernel
theorem dX1_isBucket_16 : decode cX1_isBucket 16 = .ok (.ifCond .eq 20, 3) := by decide +kernel
theorem dX1_isBucket_19 : decode cX1_isBucket 19 = .ok (.aload_n 0, 1) := by decide +kernel
theorem dX1_isBucket_20 : decode cX1_isBucket 20 = .ok (.getfield 17, 3) := by decide +kernel
theorem dX1_isBucket_23 : decode cX1_isBucket 23 = .ok (.aload_n 0, 1) := by decide +kernel
theorem dX1_isBucket_24 : decode cX1_isBucket 24 = .ok (.iload_n 1, 1) := by decide +kernel
theorem dX1_isBucket_25 : decode cX1_isBucket 25 = .ok (.iload_n 2, 1) := by decide +kernel
theorem dX1_isBucket_26 : decode cX1_isBucket 26 = .ok (.iconst 1, 1) := by decide +kernel
theorem dX1_isBucket_27 : decode cX1_isBucket 27 = .ok (.isub, 1) := by decide +kernel
theorem dX1_isBucket_28 : decode cX1_isBucket 28 = .ok (.invokevirtual 20, 3) := by decide +kernel
theorem dX1_isBucket_31 : decode cX1_isBucket 31 = .ok (.iaload, 1) := by decide +kernel
theorem dX1_isBucket_32 : decode cX1_isBucket 32 = .ok (.iconst 4, 1) := by decide +kernel
theorem dX1_isBucket_33 : decode cX1_isBucket 33 = .ok (.if_icmp .le 7, 3) := by decide +kernel
theorem dX1_isBucket_36 : decode cX1_isBucket 36 = .ok (.iconst 1, 1) := by decide +kernel
theorem dX1_isBucket_37 : decode cX1_isBucket 37 = .ok (.goto 4, 3) := by decide +kernel
theorem dX1_isBucket_40 : decode cX1_isBucket 40 = .ok (.iconst 0, 1) := by decide +kernel
theorem dX1_isBucket_41 : decode cX1_isBucket 41 = .ok (.ireturn, 1) := by decide +kernel
abbrev cX1_remove : ByteArray := prog_3_method_7_code
def yX1_remove : MethodName := ⟨RX1, "remove", "(I)I"⟩
theorem dX1_remove_0 : decode cX1_remove 0 = .ok (.aload_n 0, 1) := by decide +kernel
theorem dX1_remove_1 : decode cX1_remove 1 = .ok (.iload_n 1, 1) := by decide +kernel
theorem dX1_remove_2 : decode cX1_remove 2 = .ok (.invokevirtual 35, 3) := by decide +kernel
theorem dX1_remove_5 : decode cX1_remove 5 = .ok (.ifCond .ne 5, 3) := by decide +kernel
theorem dX1_remove_8 : decode cX1_remove 8 = .ok (.iconst (-1), 1) := by decide +kernel
theorem dX1_remove_9 : decode cX1_remove 9 = .ok (.ireturn, 1) := by decide +kernel
theorem dX1_remove_10 : decode cX1_remove 10 = .ok (.aload_n 0, 1) := by decide +kernel
theorem dX1_remove_11 : decode cX1_remove 11 = .ok (.getfield 7, 3) := by decide +kernel
theorem dX1_remove_14 : decode cX1_remove 14 = .ok (.iload_n 1, 1) := by decide +kernel
theorem dX1_remove_15 : decode cX1_remove 15 = .ok (.iconst 0, 1) := by decide +kernel
theorem dX1_remove_16 : decode cX1_remove 16 = .ok (.bastore, 1) := by decide +kernel
theorem dX1_remove_17 : decode cX1_remove 17 = .ok (.aload_n 0, 1) := by decide +kernel
theorem dX1_remove_18 : decode cX1_remove 18 = .ok (.invokevirtual 32, 3) := by decide +kernel
theorem dX1_remove_21 : decode cX1_remove 21 = .ok (.ireturn, 1) := by decide +kernel
abbrev cX1_has : ByteArray := prog_3_method_8_code
def yX1_has : MethodName := ⟨RX1, "has", "(I)Z"⟩
theorem dX1_has_0 : decode cX1_has 0 = .ok (.aload_n 0, 1) := by decide +kernel
theorem dX1_has_1 : decode cX1_has 1 = .ok (.iload_n 1, 1) := by decide +kernel
theorem dX1_has_2 : decode cX1_has 2 = .ok (.invokevirtual 24, 3) := by decide +kernel
theorem dX1_has_5 : decode cX1_has 5 = .ok (.ifCond .eq 16, 3) := by decide +kernel
theorem dX1_has_8 : decode cX1_has 8 = .ok (.aload_n 0, 1) := by decide +kernel
theorem dX1_has_9 : decode cX1_has 9 = .ok (.getfield 7, 3) := by decide +kernel
theorem dX1_has_12 : decode cX1_has 12 = .ok (.iload_n 1, 1) := by decide +kernel
theorem dX1_has_13 : decode cX1_has 13 = .ok (.baload, 1) := by decide +kernel
theorem dX1_has_14 : decode cX1_has 14 = .ok (.ifCond .eq 7, 3) := by decide +kernel
theorem dX1_has_17 : decode cX1_has 17 = .ok (.iconst 1, 1) := by decide +kernel
theorem dX1_has_18 : decode cX1_has 18 = .ok (.goto 4, 3) := by decide +kernel
theorem dX1_has_21 : decode cX1_has 21 = .ok (.iconst 0, 1) := by decide +kernel
theorem dX1_has_22 : decode cX1_has 22 = .ok (.ireturn, 1) := by decide +kernel
abbrev cX1_get : ByteArray := prog_3_method_9_code
def yX1_get : MethodName := ⟨RX1, "get", "(I)I"⟩
theorem dX1_get_0 : decode cX1_get 0 = .ok (.aload_n 0, 1) := by decide +kernel
theorem dX1_get_1 : decode cX1_get 1 = .ok (.iload_n 1, 1) := by decide +kernel
theorem dX1_get_2 : decode cX1_get 2 = .ok (.invokevirtual 35, 3) := by decide +kernel
theorem dX1_get_5 : decode cX1_get 5 = .ok (.ifCond .eq 12, 3) := by decide +kernel
theorem dX1_get_8 : decode cX1_get 8 = .ok (.aload_n 0, 1) := by decide +kernel
theorem dX1_get_9 : decode cX1_get 9 = .ok (.getfield 13, 3) := by decide +kernel
theorem dX1_get_12 : decode cX1_get 12 = .ok (.iload_n 1, 1) := by decide +kernel
theorem dX1_get_13 : decode cX1_get 13 = .ok (.iaload, 1) := by decide +kernel
theorem dX1_get_14 : decode cX1_get 14 = .ok (.goto 4, 3) := by decide +kernel
theorem dX1_get_17 : decode cX1_get 17 = .ok (.iconst 0, 1) := by decide +kernel
theorem dX1_get_18 : decode cX1_get 18 = .ok (.ireturn, 1) := by decide +kernel
abbrev cX1_deepest : ByteArray := prog_3_method_12_code
def yX1_deepest : MethodName := ⟨RX1, "deepest", "()I"⟩
theorem dX1_deepest_0 : decode cX1_deepest 0 = .ok (.iconst 0, 1) := by decide +kernel
theorem dX1_deepest_1 : decode cX1_deepest 1 = .ok (.istore_n 1, 1) := by decide +kernel
theorem dX1_deepest_2 : decode cX1_deepest 2 = .ok (.iconst 0, 1) := by decide +kernel
theorem dX1_deepest_3 : decode cX1_deepest 3 = .ok (.istore_n 2, 1) := by decide +kernel
theorem dX1_deepest_4 : decode cX1_deepest 4 = .ok (.iload_n 2, 1) := by decide +kernel
theorem dX1_deepest_5 : decode cX1_deepest 5 = .ok (.bipush 8, 2) := by decide +kernel
theorem dX1_deepest_7 : decode cX1_deepest 7 = .ok (.if_icmp .gt 23, 3) := by decide +kernel
theorem dX1_deepest_10 : decode cX1_deepest 10 = .ok (.aload_n 0, 1) := by decide +kernel
theorem dX1_deepest_11 : decode cX1_deepest 11 = .ok (.iload_n 2, 1) := by decide +kernel
theorem dX1_deepest_12 : decode cX1_deepest 12 = .ok (.invokevirtual 38, 3) := by decide +kernel
theorem dX1_deepest_15 : decode cX1_deepest 15 = .ok (.ifCond .le 7, 3) := by decide +kernel
theorem dX1_deepest_18 : decode cX1_deepest 18 = .ok (.iload_n 2, 1) := by decide +kernel
theorem dX1_deepest_19 : decode cX1_deepest 19 = .ok (.goto 4, 3) := by decide +kernel
theorem dX1_deepest_22 : decode cX1_deepest 22 = .ok (.iload_n 1, 1) := by decide +kernel
theorem dX1_deepest_23 : decode cX1_deepest 23 = .ok (.istore_n 1, 1) := by decide +kernel
theorem dX1_deepest_24 : decode cX1_deepest 24 = .ok (.iinc 2 1, 3) := by decide +kernel
theorem dX1_deepest_27 : decode cX1_deepest 27 = .ok (.goto (-23), 3) := by decide +kernel
theorem dX1_deepest_30 : decode cX1_deepest 30 = .ok (.iload_n 1, 1) := by decide +kernel
theorem dX1_deepest_31 : decode cX1_deepest 31 = .ok (.ireturn, 1) := by decide +kernel
abbrev cX1_depthOf : ByteArray := prog_3_method_13_code
def yX1_depthOf : MethodName := ⟨RX1, "depthOf", "(I)I"⟩
theorem dX1_depthOf_0 : decode cX1_depthOf 0 = .ok (.aload_n 0, 1) := by decide +kernel
theorem dX1_depthOf_1 : decode cX1_depthOf 1 = .ok (.invokevirtual 42, 3) := by decide +kernel
theorem dX1_depthOf_4 : decode cX1_depthOf 4 = .ok (.iconst 0, 1) := by decide +kernel
theorem dX1_depthOf_5 : decode cX1_depthOf 5 = .ok (.istore_n 2, 1) := by decide +kernel
theorem dX1_depthOf_6 : decode cX1_depthOf 6 = .ok (.iload_n 2, 1) := by decide +kernel
theorem dX1_depthOf_7 : decode cX1_depthOf 7 = .ok (.bipush 8, 2) := by decide +kernel
theorem dX1_depthOf_9 : decode cX1_depthOf 9 = .ok (.if_icmp .gt 28, 3) := by decide +kernel
theorem dX1_depthOf_12 : decode cX1_depthOf 12 = .ok (.aload_n 0, 1) := by decide +kernel
theorem dX1_depthOf_13 : decode cX1_depthOf 13 = .ok (.iload_n 1, 1) := by decide +kernel
theorem dX1_depthOf_14 : decode cX1_depthOf 14 = .ok (.invokevirtual 24, 3) := by decide +kernel
theorem dX1_depthOf_17 : decode cX1_depthOf 17 = .ok (.ifCond .eq 20, 3) := by decide +kernel
theorem dX1_depthOf_20 : decode cX1_depthOf 20 = .ok (.aload_n 0, 1) := by decide +kernel
theorem dX1_depthOf_21 : decode cX1_depthOf 21 = .ok (.iload_n 1, 1) := by decide +kernel
theorem dX1_depthOf_22 : decode cX1_depthOf 22 = .ok (.iload_n 2, 1) := by decide +kernel
theorem dX1_depthOf_23 : decode cX1_depthOf 23 = .ok (.invokevirtual 45, 3) := by decide +kernel
theorem dX1_depthOf_26 : decode cX1_depthOf 26 = .ok (.ifCond .eq 5, 3) := by decide +kernel
theorem dX1_depthOf_29 : decode cX1_depthOf 29 = .ok (.iload_n 2, 1) := by decide +kernel
theorem dX1_depthOf_30 : decode cX1_depthOf 30 = .ok (.ireturn, 1) := by decide +kernel
theorem dX1_depthOf_31 : decode cX1_depthOf 31 = .ok (.iinc 2 1, 3) := by decide +kernel
theorem dX1_depthOf_34 : decode cX1_depthOf 34 = .ok (.goto (-28), 3) := by decide +kernel
theorem dX1_depthOf_37 : decode cX1_depthOf 37 = .ok (.iconst (-1), 1) := by decide +kernel
theorem dX1_depthOf_38 : decode cX1_depthOf 38 = .ok (.ireturn, 1) := by decide +kernel
abbrev cX1_load : ByteArray := prog_3_method_14_code
def yX1_load : MethodName := ⟨RX1, "load", "(I)I"⟩
theorem dX1_load_0 : decode cX1_load 0 = .ok (.aload_n 0, 1) := by decide +kernel
theorem dX1_load_1 : decode cX1_load 1 = .ok (.iload_n 1, 1) := by decide +kernel
theorem dX1_load_2 : decode cX1_load 2 = .ok (.invokevirtual 49, 3) := by decide +kernel
theorem dX1_load_5 : decode cX1_load 5 = .ok (.istore_n 2, 1) := by decide +kernel
theorem dX1_load_6 : decode cX1_load 6 = .ok (.iload_n 2, 1) := by decide +kernel
theorem dX1_load_7 : decode cX1_load 7 = .ok (.ifCond .ge 7, 3) := by decide +kernel
theorem dX1_load_10 : decode cX1_load 10 = .ok (.iconst (-1), 1) := by decide +kernel
theorem dX1_load_11 : decode cX1_load 11 = .ok (.goto 14, 3) := by decide +kernel
theorem dX1_load_14 : decode cX1_load 14 = .ok (.aload_n 0, 1) := by decide +kernel
theorem dX1_load_15 : decode cX1_load 15 = .ok (.getfield 17, 3) := by decide +kernel
theorem dX1_load_18 : decode cX1_load 18 = .ok (.aload_n 0, 1) := by decide +kernel
theorem dX1_load_19 : decode cX1_load 19 = .ok (.iload_n 1, 1) := by decide +kernel
theorem dX1_load_20 : decode cX1_load 20 = .ok (.iload_n 2, 1) := by decide +kernel
theorem dX1_load_21 : decode cX1_load 21 = .ok (.invokevirtual 20, 3) := by decide +kernel
theorem dX1_load_24 : decode cX1_load 24 = .ok (.iaload, 1) := by decide +kernel
theorem dX1_load_25 : decode cX1_load 25 = .ok (.ireturn, 1) := by decide +kernel
abbrev cX1_inBucket : ByteArray := prog_3_method_15_code
def yX1_inBucket : MethodName := ⟨RX1, "inBucket", "(II)I"⟩
theorem dX1_inBucket_0 : decode cX1_inBucket 0 = .ok (.aload_n 0, 1) := by decide +kernel
theorem dX1_inBucket_1 : decode cX1_inBucket 1 = .ok (.iload_n 1, 1) := by decide +kernel
theorem dX1_inBucket_2 : decode cX1_inBucket 2 = .ok (.invokevirtual 49, 3) := by decide +kernel
theorem dX1_inBucket_5 : decode cX1_inBucket 5 = .ok (.istore_n 3, 1) := by decide +kernel
theorem dX1_inBucket_6 : decode cX1_inBucket 6 = .ok (.iconst 0, 1) := by decide +kernel
theorem dX1_inBucket_7 : decode cX1_inBucket 7 = .ok (.istore 4, 2) := by decide +kernel
theorem dX1_inBucket_9 : decode cX1_inBucket 9 = .ok (.iconst 0, 1) := by decide +kernel
theorem dX1_inBucket_10 : decode cX1_inBucket 10 = .ok (.istore 5, 2) := by decide +kernel
theorem dX1_inBucket_12 : decode cX1_inBucket 12 = .ok (.iload 5, 2) := by decide +kernel
theorem dX1_inBucket_14 : decode cX1_inBucket 14 = .ok (.sipush 256, 3) := by decide +kernel
theorem dX1_inBucket_17 : decode cX1_inBucket 17 = .ok (.if_icmp .ge 51, 3) := by decide +kernel
theorem dX1_inBucket_20 : decode cX1_inBucket 20 = .ok (.iload_n 3, 1) := by decide +kernel
theorem dX1_inBucket_21 : decode cX1_inBucket 21 = .ok (.ifCond .lt 47, 3) := by decide +kernel
theorem dX1_inBucket_24 : decode cX1_inBucket 24 = .ok (.aload_n 0, 1) := by decide +kernel
theorem dX1_inBucket_25 : decode cX1_inBucket 25 = .ok (.getfield 7, 3) := by decide +kernel
theorem dX1_inBucket_28 : decode cX1_inBucket 28 = .ok (.iload 5, 2) := by decide +kernel
theorem dX1_inBucket_30 : decode cX1_inBucket 30 = .ok (.baload, 1) := by decide +kernel
theorem dX1_inBucket_31 : decode cX1_inBucket 31 = .ok (.ifCond .eq 31, 3) := by decide +kernel
theorem dX1_inBucket_34 : decode cX1_inBucket 34 = .ok (.aload_n 0, 1) := by decide +kernel
theorem dX1_inBucket_35 : decode cX1_inBucket 35 = .ok (.iload 5, 2) := by decide +kernel
theorem dX1_inBucket_37 : decode cX1_inBucket 37 = .ok (.iload_n 3, 1) := by decide +kernel
theorem dX1_inBucket_38 : decode cX1_inBucket 38 = .ok (.invokevirtual 20, 3) := by decide +kernel
theorem dX1_inBucket_41 : decode cX1_inBucket 41 = .ok (.aload_n 0, 1) := by decide +kernel
theorem dX1_inBucket_42 : decode cX1_inBucket 42 = .ok (.iload_n 1, 1) := by decide +kernel
theorem dX1_inBucket_43 : decode cX1_inBucket 43 = .ok (.iload_n 3, 1) := by decide +kernel
theorem dX1_inBucket_44 : decode cX1_inBucket 44 = .ok (.invokevirtual 20, 3) := by decide +kernel
theorem dX1_inBucket_47 : decode cX1_inBucket 47 = .ok (.if_icmp .ne 15, 3) := by decide +kernel
theorem dX1_inBucket_50 : decode cX1_inBucket 50 = .ok (.iload 4, 2) := by decide +kernel
theorem dX1_inBucket_52 : decode cX1_inBucket 52 = .ok (.iload_n 2, 1) := by decide +kernel
theorem dX1_inBucket_53 : decode cX1_inBucket 53 = .ok (.if_icmp .ne 6, 3) := by decide +kernel
theorem dX1_inBucket_56 : decode cX1_inBucket 56 = .ok (.iload 5, 2) := by decide +kernel
theorem dX1_inBucket_58 : decode cX1_inBucket 58 = .ok (.ireturn, 1) := by decide +kernel
theorem dX1_inBucket_59 : decode cX1_inBucket 59 = .ok (.iinc 4 1, 3) := by decide +kernel
theorem dX1_inBucket_62 : decode cX1_inBucket 62 = .ok (.iinc 5 1, 3) := by decide +kernel
theorem dX1_inBucket_65 : decode cX1_inBucket 65 = .ok (.goto (-53), 3) := by decide +kernel
theorem dX1_inBucket_68 : decode cX1_inBucket 68 = .ok (.iconst (-1), 1) := by decide +kernel
theorem dX1_inBucket_69 : decode cX1_inBucket 69 = .ok (.ireturn, 1) := by decide +kernel
abbrev cX1_together : ByteArray := prog_3_method_16_code
def yX1_together : MethodName := ⟨RX1, "together", "(II)Z"⟩
theorem dX1_together_0 : decode cX1_together 0 = .ok (.aload_n 0, 1) := by decide +kernel
theorem dX1_together_1 : decode cX1_together 1 = .ok (.iload_n 1, 1) := by decide +kernel
theorem dX1_together_2 : decode cX1_together 2 = .ok (.invokevirtual 49, 3) := by decide +kernel
theorem dX1_together_5 : decode cX1_together 5 = .ok (.istore_n 3, 1) := by decide +kernel
theorem dX1_together_6 : decode cX1_together 6 = .ok (.iload_n 3, 1) := by decide +kernel
theorem dX1_together_7 : decode cX1_together 7 = .ok (.ifCond .lt 30, 3) := by decide +kernel
theorem dX1_together_10 : decode cX1_together 10 = .ok (.aload_n 0, 1) := by decide +kernel
theorem dX1_together_11 : decode cX1_together 11 = .ok (.iload_n 2, 1) := by decide +kernel
theorem dX1_together_12 : decode cX1_together 12 = .ok (.invokevirtual 24, 3) := by decide +kernel
theorem dX1_together_15 : decode cX1_together 15 = .ok (.ifCond .eq 22, 3) := by decide +kernel
theorem dX1_together_18 : decode cX1_together 18 = .ok (.aload_n 0, 1) := by decide +kernel
theorem dX1_together_19 : decode cX1_together 19 = .ok (.iload_n 1, 1) := by decide +kernel
theorem dX1_together_20 : decode cX1_together 20 = .ok (.iload_n 3, 1) := by decide +kernel
theorem dX1_together_21 : decode cX1_together 21 = .ok (.invokevirtual 20, 3) := by decide +kernel
theorem dX1_together_24 : decode cX1_together 24 = .ok (.aload_n 0, 1) := by decide +kernel
theorem dX1_together_25 : decode cX1_together 25 = .ok (.iload_n 2, 1) := by decide +kernel
theorem dX1_together_26 : decode cX1_together 26 = .ok (.iload_n 3, 1) := by decide +kernel
theorem dX1_together_27 : decode cX1_together 27 = .ok (.invokevirtual 20, 3) := by decide +kernel
theorem dX1_together_30 : decode cX1_together 30 = .ok (.if_icmp .ne 7, 3) := by decide +kernel
theorem dX1_together_33 : decode cX1_together 33 = .ok (.iconst 1, 1) := by decide +kernel
theorem dX1_together_34 : decode cX1_together 34 = .ok (.goto 4, 3) := by decide +kernel
theorem dX1_together_37 : decode cX1_together 37 = .ok (.iconst 0, 1) := by decide +kernel
theorem dX1_together_38 : decode cX1_together 38 = .ok (.ireturn, 1) := by decide +kernel
abbrev cX1_next : ByteArray := prog_3_method_18_code
def yX1_next : MethodName := ⟨RX1, "next", "(I)I"⟩
theorem dX1_next_0 : decode cX1_next 0 = .ok (.iconst 0, 1) := by decide +kernel
theorem dX1_next_1 : decode cX1_next 1 = .ok (.istore_n 2, 1) := by decide +kernel
theorem dX1_next_2 : decode cX1_next 2 = .ok (.iload_n 2, 1) := by decide +kernel
theorem dX1_next_3 : decode cX1_next 3 = .ok (.sipush 256, 3) := by decide +kernel
theorem dX1_next_6 : decode cX1_next 6 = .ok (.if_icmp .ge 25, 3) := by decide +kernel
theorem dX1_next_9 : decode cX1_next 9 = .ok (.iload_n 2, 1) := by decide +kernel
theorem dX1_next_10 : decode cX1_next 10 = .ok (.iload_n 1, 1) := by decide +kernel
theorem dX1_next_11 : decode cX1_next 11 = .ok (.if_icmp .lt 14, 3) := by decide +kernel
theorem dX1_next_14 : decode cX1_next 14 = .ok (.aload_n 0, 1) := by decide +kernel
theorem dX1_next_15 : decode cX1_next 15 = .ok (.getfield 7, 3) := by decide +kernel
theorem dX1_next_18 : decode cX1_next 18 = .ok (.iload_n 2, 1) := by decide +kernel
theorem dX1_next_19 : decode cX1_next 19 = .ok (.baload, 1) := by decide +kernel
theorem dX1_next_20 : decode cX1_next 20 = .ok (.ifCond .eq 5, 3) := by decide +kernel
theorem dX1_next_23 : decode cX1_next 23 = .ok (.iload_n 2, 1) := by decide +kernel
theorem dX1_next_24 : decode cX1_next 24 = .ok (.ireturn, 1) := by decide +kernel
theorem dX1_next_25 : decode cX1_next 25 = .ok (.iinc 2 1, 3) := by decide +kernel
theorem dX1_next_28 : decode cX1_next 28 = .ok (.goto (-26), 3) := by decide +kernel
theorem dX1_next_31 : decode cX1_next 31 = .ok (.iconst (-1), 1) := by decide +kernel
theorem dX1_next_32 : decode cX1_next 32 = .ok (.ireturn, 1) := by decide +kernel
abbrev cX1_growth : ByteArray := prog_3_method_19_code
def yX1_growth : MethodName := ⟨RX1, "growth", "(I)I"⟩
theorem dX1_growth_0 : decode cX1_growth 0 = .ok (.aload_n 0, 1) := by decide +kernel
theorem dX1_growth_1 : decode cX1_growth 1 = .ok (.iload_n 1, 1) := by decide +kernel
theorem dX1_growth_2 : decode cX1_growth 2 = .ok (.invokevirtual 24, 3) := by decide +kernel
theorem dX1_growth_5 : decode cX1_growth 5 = .ok (.ifCond .ne 5, 3) := by decide +kernel
theorem dX1_growth_8 : decode cX1_growth 8 = .ok (.iconst (-1), 1) := by decide +kernel
theorem dX1_growth_9 : decode cX1_growth 9 = .ok (.ireturn, 1) := by decide +kernel
theorem dX1_growth_10 : decode cX1_growth 10 = .ok (.aload_n 0, 1) := by decide +kernel
theorem dX1_growth_11 : decode cX1_growth 11 = .ok (.invokevirtual 32, 3) := by decide +kernel
theorem dX1_growth_14 : decode cX1_growth 14 = .ok (.istore_n 2, 1) := by decide +kernel
theorem dX1_growth_15 : decode cX1_growth 15 = .ok (.aload_n 0, 1) := by decide +kernel
theorem dX1_growth_16 : decode cX1_growth 16 = .ok (.getfield 7, 3) := by decide +kernel
theorem dX1_growth_19 : decode cX1_growth 19 = .ok (.iload_n 1, 1) := by decide +kernel
theorem dX1_growth_20 : decode cX1_growth 20 = .ok (.baload, 1) := by decide +kernel
theorem dX1_growth_21 : decode cX1_growth 21 = .ok (.istore_n 3, 1) := by decide +kernel
theorem dX1_growth_22 : decode cX1_growth 22 = .ok (.aload_n 0, 1) := by decide +kernel
theorem dX1_growth_23 : decode cX1_growth 23 = .ok (.getfield 7, 3) := by decide +kernel
theorem dX1_growth_26 : decode cX1_growth 26 = .ok (.iload_n 1, 1) := by decide +kernel
theorem dX1_growth_27 : decode cX1_growth 27 = .ok (.iconst 1, 1) := by decide +kernel
theorem dX1_growth_28 : decode cX1_growth 28 = .ok (.bastore, 1) := by decide +kernel
theorem dX1_growth_29 : decode cX1_growth 29 = .ok (.aload_n 0, 1) := by decide +kernel
theorem dX1_growth_30 : decode cX1_growth 30 = .ok (.invokevirtual 32, 3) := by decide +kernel
theorem dX1_growth_33 : decode cX1_growth 33 = .ok (.istore 4, 2) := by decide +kernel
theorem dX1_growth_35 : decode cX1_growth 35 = .ok (.aload_n 0, 1) := by decide +kernel
theorem dX1_growth_36 : decode cX1_growth 36 = .ok (.getfield 7, 3) := by decide +kernel
theorem dX1_growth_39 : decode cX1_growth 39 = .ok (.iload_n 1, 1) := by decide +kernel
theorem dX1_growth_40 : decode cX1_growth 40 = .ok (.iload_n 3, 1) := by decide +kernel
theorem dX1_growth_41 : decode cX1_growth 41 = .ok (.bastore, 1) := by decide +kernel
theorem dX1_growth_42 : decode cX1_growth 42 = .ok (.iload 4, 2) := by decide +kernel
theorem dX1_growth_44 : decode cX1_growth 44 = .ok (.iload_n 2, 1) := by decide +kernel
theorem dX1_growth_45 : decode cX1_growth 45 = .ok (.isub, 1) := by decide +kernel
theorem dX1_growth_46 : decode cX1_growth 46 = .ok (.ireturn, 1) := by decide +kernel
theorem q14 : (Jvm.Cond.initialized "SplitDirectoryModel") ∈ lw_all := lw_g (lw_at lw_m0 2 rfl) rfl
theorem q150 : (Jvm.Cond.instantiable "SplitDirectoryModel" (3 : Nat)) ∈ lw_all := lw_g (lw_at lw_m0 138 rfl) rfl
theorem q152 : (Jvm.Cond.instanceMethod ({ cls := "SplitDirectoryModel", name := "<init>", desc := "()V" } : Jvm.MethodName)) ∈ lw_all := lw_g (lw_at lw_m0 140 rfl) rfl
theorem q153 : (Jvm.Cond.code ({ cls := "SplitDirectoryModel", name := "<init>", desc := "()V" } : Jvm.MethodName) prog_3_method_1_code (1 : Nat) (Option.none : Option Jvm.ClassFile.FieldType)) ∈ lw_all := lw_g (lw_at lw_m0 141 rfl) rfl
theorem q154 : (Jvm.Cond.methodLink "SplitDirectoryModel" (1 : Nat) ({ cls := "java/lang/Object", name := "<init>", desc := "()V" } : Jvm.MethodName)) ∈ lw_all := lw_g (lw_at lw_m0 142 rfl) rfl
theorem q155 : (Jvm.Cond.fieldLink "SplitDirectoryModel" (7 : Nat) "SplitDirectoryModel" "there" "[Z") ∈ lw_all := lw_g (lw_at lw_m0 143 rfl) rfl
theorem q156 : (Jvm.Cond.fieldLink "SplitDirectoryModel" (13 : Nat) "SplitDirectoryModel" "values" "[I") ∈ lw_all := lw_g (lw_at lw_m0 144 rfl) rfl
theorem q157 : (Jvm.Cond.fieldLink "SplitDirectoryModel" (17 : Nat) "SplitDirectoryModel" "counts" "[I") ∈ lw_all := lw_g (lw_at lw_m0 145 rfl) rfl
theorem q158 : (Jvm.Cond.lays "SplitDirectoryModel" "SplitDirectoryModel" "there" "[Z") ∈ lw_all := lw_g (lw_at lw_m0 146 rfl) rfl
theorem q159 : (Jvm.Cond.soleField "SplitDirectoryModel" "there") ∈ lw_all := lw_g (lw_at lw_m0 147 rfl) rfl
theorem q160 : (Jvm.Cond.lays "SplitDirectoryModel" "SplitDirectoryModel" "values" "[I") ∈ lw_all := lw_g (lw_at lw_m0 148 rfl) rfl
theorem q161 : (Jvm.Cond.soleField "SplitDirectoryModel" "values") ∈ lw_all := lw_g (lw_at lw_m0 149 rfl) rfl
theorem q162 : (Jvm.Cond.lays "SplitDirectoryModel" "SplitDirectoryModel" "counts" "[I") ∈ lw_all := lw_g (lw_at lw_m0 150 rfl) rfl
theorem q163 : (Jvm.Cond.soleField "SplitDirectoryModel" "counts") ∈ lw_all := lw_g (lw_at lw_m0 151 rfl) rfl
theorem q164 : (Jvm.Cond.superclass "SplitDirectoryModel" "java/lang/Object") ∈ lw_all := lw_g (lw_at lw_m0 152 rfl) rfl
theorem q166 : (Jvm.Cond.instanceMethod ({ cls := "SplitDirectoryModel", name := "put", desc := "(II)I" } : Jvm.MethodName)) ∈ lw_all := lw_g (lw_at lw_m0 154 rfl) rfl
theorem q167 : (Jvm.Cond.selects "SplitDirectoryModel" ({ cls := "SplitDirectoryModel", name := "put", desc := "(II)I" } : Jvm.MethodName) ({ cls := "SplitDirectoryModel", name := "put", desc := "(II)I" } : Jvm.MethodName)) ∈ lw_all := lw_g (lw_at lw_m0 155 rfl) rfl
theorem q168 : (Jvm.Cond.code ({ cls := "SplitDirectoryModel", name := "put", desc := "(II)I" } : Jvm.MethodName) prog_3_method_6_code (3 : Nat) (Option.some Jvm.ClassFile.FieldType.int)) ∈ lw_all := lw_g (lw_at lw_m0 156 rfl) rfl
theorem q169 : (Jvm.Cond.methodLink "SplitDirectoryModel" (24 : Nat) ({ cls := "SplitDirectoryModel", name := "key", desc := "(I)Z" } : Jvm.MethodName)) ∈ lw_all := lw_g (lw_at lw_m0 157 rfl) rfl
theorem q170 : (Jvm.Cond.privateMethod ({ cls := "SplitDirectoryModel", name := "key", desc := "(I)Z" } : Jvm.MethodName)) ∈ lw_tbl := lw_at lw_m0 158 rfl
theorem q171 : (Jvm.Cond.instanceMethod ({ cls := "SplitDirectoryModel", name := "key", desc := "(I)Z" } : Jvm.MethodName)) ∈ lw_all := lw_g (lw_at lw_m0 159 rfl) rfl
theorem q172 : (Jvm.Cond.code ({ cls := "SplitDirectoryModel", name := "key", desc := "(I)Z" } : Jvm.MethodName) prog_3_method_2_code (2 : Nat) (Option.some Jvm.ClassFile.FieldType.boolean)) ∈ lw_all := lw_g (lw_at lw_m0 160 rfl) rfl
theorem q173 : (Jvm.Cond.methodLink "SplitDirectoryModel" (28 : Nat) ({ cls := "SplitDirectoryModel", name := "size", desc := "()I" } : Jvm.MethodName)) ∈ lw_all := lw_g (lw_at lw_m0 161 rfl) rfl
theorem q174 : (Jvm.Cond.instanceMethod ({ cls := "SplitDirectoryModel", name := "size", desc := "()I" } : Jvm.MethodName)) ∈ lw_all := lw_g (lw_at lw_m0 162 rfl) rfl
theorem q175 : (Jvm.Cond.selects "SplitDirectoryModel" ({ cls := "SplitDirectoryModel", name := "size", desc := "()I" } : Jvm.MethodName) ({ cls := "SplitDirectoryModel", name := "size", desc := "()I" } : Jvm.MethodName)) ∈ lw_all := lw_g (lw_at lw_m0 163 rfl) rfl
theorem q176 : (Jvm.Cond.code ({ cls := "SplitDirectoryModel", name := "size", desc := "()I" } : Jvm.MethodName) prog_3_method_10_code (3 : Nat) (Option.some Jvm.ClassFile.FieldType.int)) ∈ lw_all := lw_g (lw_at lw_m0 164 rfl) rfl
theorem q177 : (Jvm.Cond.methodLink "SplitDirectoryModel" (32 : Nat) ({ cls := "SplitDirectoryModel", name := "buckets", desc := "()I" } : Jvm.MethodName)) ∈ lw_all := lw_g (lw_at lw_m0 165 rfl) rfl
theorem q178 : (Jvm.Cond.instanceMethod ({ cls := "SplitDirectoryModel", name := "buckets", desc := "()I" } : Jvm.MethodName)) ∈ lw_all := lw_g (lw_at lw_m0 166 rfl) rfl
theorem q179 : (Jvm.Cond.selects "SplitDirectoryModel" ({ cls := "SplitDirectoryModel", name := "buckets", desc := "()I" } : Jvm.MethodName) ({ cls := "SplitDirectoryModel", name := "buckets", desc := "()I" } : Jvm.MethodName)) ∈ lw_all := lw_g (lw_at lw_m0 167 rfl) rfl
theorem q180 : (Jvm.Cond.code ({ cls := "SplitDirectoryModel", name := "buckets", desc := "()I" } : Jvm.MethodName) prog_3_method_11_code (3 : Nat) (Option.some Jvm.ClassFile.FieldType.int)) ∈ lw_all := lw_g (lw_at lw_m0 168 rfl) rfl
theorem q181 : (Jvm.Cond.methodLink "SplitDirectoryModel" (38 : Nat) ({ cls := "SplitDirectoryModel", name := "ofDepth", desc := "(I)I" } : Jvm.MethodName)) ∈ lw_all := lw_g (lw_at lw_m0 169 rfl) rfl
theorem q182 : (Jvm.Cond.instanceMethod ({ cls := "SplitDirectoryModel", name := "ofDepth", desc := "(I)I" } : Jvm.MethodName)) ∈ lw_all := lw_g (lw_at lw_m0 170 rfl) rfl
theorem q183 : (Jvm.Cond.selects "SplitDirectoryModel" ({ cls := "SplitDirectoryModel", name := "ofDepth", desc := "(I)I" } : Jvm.MethodName) ({ cls := "SplitDirectoryModel", name := "ofDepth", desc := "(I)I" } : Jvm.MethodName)) ∈ lw_all := lw_g (lw_at lw_m0 171 rfl) rfl
theorem q184 : (Jvm.Cond.code ({ cls := "SplitDirectoryModel", name := "ofDepth", desc := "(I)I" } : Jvm.MethodName) prog_3_method_17_code (4 : Nat) (Option.some Jvm.ClassFile.FieldType.int)) ∈ lw_all := lw_g (lw_at lw_m0 172 rfl) rfl
theorem q185 : (Jvm.Cond.methodLink "SplitDirectoryModel" (42 : Nat) ({ cls := "SplitDirectoryModel", name := "count", desc := "()V" } : Jvm.MethodName)) ∈ lw_all := lw_g (lw_at lw_m0 173 rfl) rfl
theorem q186 : (Jvm.Cond.privateMethod ({ cls := "SplitDirectoryModel", name := "count", desc := "()V" } : Jvm.MethodName)) ∈ lw_tbl := lw_at lw_m0 174 rfl
theorem q187 : (Jvm.Cond.instanceMethod ({ cls := "SplitDirectoryModel", name := "count", desc := "()V" } : Jvm.MethodName)) ∈ lw_all := lw_g (lw_at lw_m0 175 rfl) rfl
theorem q188 : (Jvm.Cond.code ({ cls := "SplitDirectoryModel", name := "count", desc := "()V" } : Jvm.MethodName) prog_3_method_4_code (4 : Nat) (Option.none : Option Jvm.ClassFile.FieldType)) ∈ lw_all := lw_g (lw_at lw_m0 176 rfl) rfl
theorem q189 : (Jvm.Cond.methodLink "SplitDirectoryModel" (20 : Nat) ({ cls := "SplitDirectoryModel", name := "ending", desc := "(II)I" } : Jvm.MethodName)) ∈ lw_all := lw_g (lw_at lw_m0 177 rfl) rfl
theorem q190 : (Jvm.Cond.privateMethod ({ cls := "SplitDirectoryModel", name := "ending", desc := "(II)I" } : Jvm.MethodName)) ∈ lw_tbl := lw_at lw_m0 178 rfl
theorem q191 : (Jvm.Cond.instanceMethod ({ cls := "SplitDirectoryModel", name := "ending", desc := "(II)I" } : Jvm.MethodName)) ∈ lw_all := lw_g (lw_at lw_m0 179 rfl) rfl
theorem q192 : (Jvm.Cond.code ({ cls := "SplitDirectoryModel", name := "ending", desc := "(II)I" } : Jvm.MethodName) prog_3_method_3_code (3 : Nat) (Option.some Jvm.ClassFile.FieldType.int)) ∈ lw_all := lw_g (lw_at lw_m0 180 rfl) rfl
theorem q193 : (Jvm.Cond.methodLink "SplitDirectoryModel" (45 : Nat) ({ cls := "SplitDirectoryModel", name := "isBucket", desc := "(II)Z" } : Jvm.MethodName)) ∈ lw_all := lw_g (lw_at lw_m0 181 rfl) rfl
theorem q194 : (Jvm.Cond.privateMethod ({ cls := "SplitDirectoryModel", name := "isBucket", desc := "(II)Z" } : Jvm.MethodName)) ∈ lw_tbl := lw_at lw_m0 182 rfl
theorem q195 : (Jvm.Cond.instanceMethod ({ cls := "SplitDirectoryModel", name := "isBucket", desc := "(II)Z" } : Jvm.MethodName)) ∈ lw_all := lw_g (lw_at lw_m0 183 rfl) rfl
theorem q196 : (Jvm.Cond.code ({ cls := "SplitDirectoryModel", name := "isBucket", desc := "(II)Z" } : Jvm.MethodName) prog_3_method_5_code (3 : Nat) (Option.some Jvm.ClassFile.FieldType.boolean)) ∈ lw_all := lw_g (lw_at lw_m0 184 rfl) rfl
theorem q198 : (Jvm.Cond.instanceMethod ({ cls := "SplitDirectoryModel", name := "remove", desc := "(I)I" } : Jvm.MethodName)) ∈ lw_all := lw_g (lw_at lw_m0 186 rfl) rfl
theorem q199 : (Jvm.Cond.selects "SplitDirectoryModel" ({ cls := "SplitDirectoryModel", name := "remove", desc := "(I)I" } : Jvm.MethodName) ({ cls := "SplitDirectoryModel", name := "remove", desc := "(I)I" } : Jvm.MethodName)) ∈ lw_all := lw_g (lw_at lw_m0 187 rfl) rfl
theorem q200 : (Jvm.Cond.code ({ cls := "SplitDirectoryModel", name := "remove", desc := "(I)I" } : Jvm.MethodName) prog_3_method_7_code (2 : Nat) (Option.some Jvm.ClassFile.FieldType.int)) ∈ lw_all := lw_g (lw_at lw_m0 188 rfl) rfl
theorem q201 : (Jvm.Cond.methodLink "SplitDirectoryModel" (35 : Nat) ({ cls := "SplitDirectoryModel", name := "has", desc := "(I)Z" } : Jvm.MethodName)) ∈ lw_all := lw_g (lw_at lw_m0 189 rfl) rfl
theorem q202 : (Jvm.Cond.instanceMethod ({ cls := "SplitDirectoryModel", name := "has", desc := "(I)Z" } : Jvm.MethodName)) ∈ lw_all := lw_g (lw_at lw_m0 190 rfl) rfl
theorem q203 : (Jvm.Cond.selects "SplitDirectoryModel" ({ cls := "SplitDirectoryModel", name := "has", desc := "(I)Z" } : Jvm.MethodName) ({ cls := "SplitDirectoryModel", name := "has", desc := "(I)Z" } : Jvm.MethodName)) ∈ lw_all := lw_g (lw_at lw_m0 191 rfl) rfl
theorem q204 : (Jvm.Cond.code ({ cls := "SplitDirectoryModel", name := "has", desc := "(I)Z" } : Jvm.MethodName) prog_3_method_8_code (2 : Nat) (Option.some Jvm.ClassFile.FieldType.boolean)) ∈ lw_all := lw_g (lw_at lw_m0 192 rfl) rfl
theorem q207 : (Jvm.Cond.instanceMethod ({ cls := "SplitDirectoryModel", name := "get", desc := "(I)I" } : Jvm.MethodName)) ∈ lw_all := lw_g (lw_at lw_m0 195 rfl) rfl
theorem q208 : (Jvm.Cond.selects "SplitDirectoryModel" ({ cls := "SplitDirectoryModel", name := "get", desc := "(I)I" } : Jvm.MethodName) ({ cls := "SplitDirectoryModel", name := "get", desc := "(I)I" } : Jvm.MethodName)) ∈ lw_all := lw_g (lw_at lw_m0 196 rfl) rfl
theorem q209 : (Jvm.Cond.code ({ cls := "SplitDirectoryModel", name := "get", desc := "(I)I" } : Jvm.MethodName) prog_3_method_9_code (2 : Nat) (Option.some Jvm.ClassFile.FieldType.int)) ∈ lw_all := lw_g (lw_at lw_m0 197 rfl) rfl
theorem q213 : (Jvm.Cond.instanceMethod ({ cls := "SplitDirectoryModel", name := "deepest", desc := "()I" } : Jvm.MethodName)) ∈ lw_all := lw_g (lw_at lw_m0 201 rfl) rfl
theorem q214 : (Jvm.Cond.selects "SplitDirectoryModel" ({ cls := "SplitDirectoryModel", name := "deepest", desc := "()I" } : Jvm.MethodName) ({ cls := "SplitDirectoryModel", name := "deepest", desc := "()I" } : Jvm.MethodName)) ∈ lw_all := lw_g (lw_at lw_m0 202 rfl) rfl
theorem q215 : (Jvm.Cond.code ({ cls := "SplitDirectoryModel", name := "deepest", desc := "()I" } : Jvm.MethodName) prog_3_method_12_code (3 : Nat) (Option.some Jvm.ClassFile.FieldType.int)) ∈ lw_all := lw_g (lw_at lw_m0 203 rfl) rfl
theorem q217 : (Jvm.Cond.instanceMethod ({ cls := "SplitDirectoryModel", name := "depthOf", desc := "(I)I" } : Jvm.MethodName)) ∈ lw_all := lw_g (lw_at lw_m0 205 rfl) rfl
theorem q218 : (Jvm.Cond.selects "SplitDirectoryModel" ({ cls := "SplitDirectoryModel", name := "depthOf", desc := "(I)I" } : Jvm.MethodName) ({ cls := "SplitDirectoryModel", name := "depthOf", desc := "(I)I" } : Jvm.MethodName)) ∈ lw_all := lw_g (lw_at lw_m0 206 rfl) rfl
theorem q219 : (Jvm.Cond.code ({ cls := "SplitDirectoryModel", name := "depthOf", desc := "(I)I" } : Jvm.MethodName) prog_3_method_13_code (3 : Nat) (Option.some Jvm.ClassFile.FieldType.int)) ∈ lw_all := lw_g (lw_at lw_m0 207 rfl) rfl
theorem q221 : (Jvm.Cond.instanceMethod ({ cls := "SplitDirectoryModel", name := "load", desc := "(I)I" } : Jvm.MethodName)) ∈ lw_all := lw_g (lw_at lw_m0 209 rfl) rfl
theorem q222 : (Jvm.Cond.selects "SplitDirectoryModel" ({ cls := "SplitDirectoryModel", name := "load", desc := "(I)I" } : Jvm.MethodName) ({ cls := "SplitDirectoryModel", name := "load", desc := "(I)I" } : Jvm.MethodName)) ∈ lw_all := lw_g (lw_at lw_m0 210 rfl) rfl
theorem q223 : (Jvm.Cond.code ({ cls := "SplitDirectoryModel", name := "load", desc := "(I)I" } : Jvm.MethodName) prog_3_method_14_code (3 : Nat) (Option.some Jvm.ClassFile.FieldType.int)) ∈ lw_all := lw_g (lw_at lw_m0 211 rfl) rfl
theorem q224 : (Jvm.Cond.methodLink "SplitDirectoryModel" (49 : Nat) ({ cls := "SplitDirectoryModel", name := "depthOf", desc := "(I)I" } : Jvm.MethodName)) ∈ lw_all := lw_g (lw_at lw_m0 212 rfl) rfl
theorem q226 : (Jvm.Cond.instanceMethod ({ cls := "SplitDirectoryModel", name := "inBucket", desc := "(II)I" } : Jvm.MethodName)) ∈ lw_all := lw_g (lw_at lw_m0 214 rfl) rfl
theorem q227 : (Jvm.Cond.selects "SplitDirectoryModel" ({ cls := "SplitDirectoryModel", name := "inBucket", desc := "(II)I" } : Jvm.MethodName) ({ cls := "SplitDirectoryModel", name := "inBucket", desc := "(II)I" } : Jvm.MethodName)) ∈ lw_all := lw_g (lw_at lw_m0 215 rfl) rfl
theorem q228 : (Jvm.Cond.code ({ cls := "SplitDirectoryModel", name := "inBucket", desc := "(II)I" } : Jvm.MethodName) prog_3_method_15_code (6 : Nat) (Option.some Jvm.ClassFile.FieldType.int)) ∈ lw_all := lw_g (lw_at lw_m0 216 rfl) rfl
theorem q230 : (Jvm.Cond.instanceMethod ({ cls := "SplitDirectoryModel", name := "together", desc := "(II)Z" } : Jvm.MethodName)) ∈ lw_all := lw_g (lw_at lw_m0 218 rfl) rfl
theorem q231 : (Jvm.Cond.selects "SplitDirectoryModel" ({ cls := "SplitDirectoryModel", name := "together", desc := "(II)Z" } : Jvm.MethodName) ({ cls := "SplitDirectoryModel", name := "together", desc := "(II)Z" } : Jvm.MethodName)) ∈ lw_all := lw_g (lw_at lw_m0 219 rfl) rfl
theorem q232 : (Jvm.Cond.code ({ cls := "SplitDirectoryModel", name := "together", desc := "(II)Z" } : Jvm.MethodName) prog_3_method_16_code (4 : Nat) (Option.some Jvm.ClassFile.FieldType.boolean)) ∈ lw_all := lw_g (lw_at lw_m0 220 rfl) rfl
theorem q235 : (Jvm.Cond.instanceMethod ({ cls := "SplitDirectoryModel", name := "next", desc := "(I)I" } : Jvm.MethodName)) ∈ lw_all := lw_g (lw_at lw_m0 223 rfl) rfl
theorem q236 : (Jvm.Cond.selects "SplitDirectoryModel" ({ cls := "SplitDirectoryModel", name := "next", desc := "(I)I" } : Jvm.MethodName) ({ cls := "SplitDirectoryModel", name := "next", desc := "(I)I" } : Jvm.MethodName)) ∈ lw_all := lw_g (lw_at lw_m0 224 rfl) rfl
theorem q237 : (Jvm.Cond.code ({ cls := "SplitDirectoryModel", name := "next", desc := "(I)I" } : Jvm.MethodName) prog_3_method_18_code (3 : Nat) (Option.some Jvm.ClassFile.FieldType.int)) ∈ lw_all := lw_g (lw_at lw_m0 225 rfl) rfl
theorem q239 : (Jvm.Cond.instanceMethod ({ cls := "SplitDirectoryModel", name := "growth", desc := "(I)I" } : Jvm.MethodName)) ∈ lw_all := lw_g (lw_at lw_m0 227 rfl) rfl
theorem q240 : (Jvm.Cond.selects "SplitDirectoryModel" ({ cls := "SplitDirectoryModel", name := "growth", desc := "(I)I" } : Jvm.MethodName) ({ cls := "SplitDirectoryModel", name := "growth", desc := "(I)I" } : Jvm.MethodName)) ∈ lw_all := lw_g (lw_at lw_m0 228 rfl) rfl
theorem q241 : (Jvm.Cond.code ({ cls := "SplitDirectoryModel", name := "growth", desc := "(I)I" } : Jvm.MethodName) prog_3_method_19_code (5 : Nat) (Option.some Jvm.ClassFile.FieldType.int)) ∈ lw_all := lw_g (lw_at lw_m0 229 rfl) rfl
theorem in_X1 : ∀ w ∈ wsX10, w ∈ lw_all := lw_in wsX10 [158, 160, 162] (by decide +kernel) (by decide +kernel)
end
section
/-! the law's own entry -/
set_option maxRecDepth 100000
abbrev cL_law : ByteArray := code
theorem dL_law_0 : decode cL_law 0 = .ok (.new 7, 3) := by decide +kernel
theorem dL_law_3 : decode cL_law 3 = .ok (.dup, 1) := by decide +kernel
theorem dL_law_4 : decode cL_law 4 = .ok (.invokespecial 9, 3) := by decide +kernel
theorem dL_law_7 : decode cL_law 7 = .ok (.astore_n 1, 1) := by decide +kernel
theorem dL_law_8 : decode cL_law 8 = .ok (.new 10, 3) := by decide +kernel
theorem dL_law_11 : decode cL_law 11 = .ok (.dup, 1) := by decide +kernel
theorem dL_law_12 : decode cL_law 12 = .ok (.invokespecial 12, 3) := by decide +kernel
theorem dL_law_15 : decode cL_law 15 = .ok (.astore_n 2, 1) := by decide +kernel
theorem dL_law_16 : decode cL_law 16 = .ok (.iconst 0, 1) := by decide +kernel
theorem dL_law_17 : decode cL_law 17 = .ok (.istore_n 3, 1) := by decide +kernel
theorem dL_law_18 : decode cL_law 18 = .ok (.iload_n 3, 1) := by decide +kernel
theorem dL_law_19 : decode cL_law 19 = .ok (.aload_n 0, 1) := by decide +kernel
theorem dL_law_20 : decode cL_law 20 = .ok (.arraylength, 1) := by decide +kernel
theorem dL_law_21 : decode cL_law 21 = .ok (.iconst 3, 1) := by decide +kernel
theorem dL_law_22 : decode cL_law 22 = .ok (.isub, 1) := by decide +kernel
theorem dL_law_23 : decode cL_law 23 = .ok (.if_icmp .gt 409, 3) := by decide +kernel
theorem dL_law_26 : decode cL_law 26 = .ok (.aload_n 0, 1) := by decide +kernel
theorem dL_law_27 : decode cL_law 27 = .ok (.iload_n 3, 1) := by decide +kernel
theorem dL_law_28 : decode cL_law 28 = .ok (.iaload, 1) := by decide +kernel
theorem dL_law_29 : decode cL_law 29 = .ok (.bipush 15, 2) := by decide +kernel
theorem dL_law_31 : decode cL_law 31 = .ok (.iand, 1) := by decide +kernel
theorem dL_law_32 : decode cL_law 32 = .ok (.tableswitch 394 0 13 #[72, 105, 128, 151, 174, 187, 200, 213, 236, 259, 292, 325, 348, 371], 72) := by decide +kernel
theorem dL_law_104 : decode cL_law 104 = .ok (.aload_n 1, 1) := by decide +kernel
theorem dL_law_105 : decode cL_law 105 = .ok (.aload_n 0, 1) := by decide +kernel
theorem dL_law_106 : decode cL_law 106 = .ok (.iload_n 3, 1) := by decide +kernel
theorem dL_law_107 : decode cL_law 107 = .ok (.iconst 1, 1) := by decide +kernel
theorem dL_law_108 : decode cL_law 108 = .ok (.iadd, 1) := by decide +kernel
theorem dL_law_109 : decode cL_law 109 = .ok (.iaload, 1) := by decide +kernel
theorem dL_law_110 : decode cL_law 110 = .ok (.aload_n 0, 1) := by decide +kernel
theorem dL_law_111 : decode cL_law 111 = .ok (.iload_n 3, 1) := by decide +kernel
theorem dL_law_112 : decode cL_law 112 = .ok (.iconst 2, 1) := by decide +kernel
theorem dL_law_113 : decode cL_law 113 = .ok (.iadd, 1) := by decide +kernel
theorem dL_law_114 : decode cL_law 114 = .ok (.iaload, 1) := by decide +kernel
theorem dL_law_115 : decode cL_law 115 = .ok (.invokevirtual 13, 3) := by decide +kernel
theorem dL_law_118 : decode cL_law 118 = .ok (.aload_n 2, 1) := by decide +kernel
theorem dL_law_119 : decode cL_law 119 = .ok (.aload_n 0, 1) := by decide +kernel
theorem dL_law_120 : decode cL_law 120 = .ok (.iload_n 3, 1) := by decide +kernel
theorem dL_law_121 : decode cL_law 121 = .ok (.iconst 1, 1) := by decide +kernel
theorem dL_law_122 : decode cL_law 122 = .ok (.iadd, 1) := by decide +kernel
theorem dL_law_123 : decode cL_law 123 = .ok (.iaload, 1) := by decide +kernel
theorem dL_law_124 : decode cL_law 124 = .ok (.aload_n 0, 1) := by decide +kernel
theorem dL_law_125 : decode cL_law 125 = .ok (.iload_n 3, 1) := by decide +kernel
theorem dL_law_126 : decode cL_law 126 = .ok (.iconst 2, 1) := by decide +kernel
theorem dL_law_127 : decode cL_law 127 = .ok (.iadd, 1) := by decide +kernel
theorem dL_law_128 : decode cL_law 128 = .ok (.iaload, 1) := by decide +kernel
theorem dL_law_129 : decode cL_law 129 = .ok (.invokevirtual 17, 3) := by decide +kernel
theorem dL_law_132 : decode cL_law 132 = .ok (.if_icmp .eq 294, 3) := by decide +kernel
theorem dL_law_135 : decode cL_law 135 = .ok (.iconst 0, 1) := by decide +kernel
theorem dL_law_136 : decode cL_law 136 = .ok (.ireturn, 1) := by decide +kernel
theorem dL_law_137 : decode cL_law 137 = .ok (.aload_n 1, 1) := by decide +kernel
theorem dL_law_138 : decode cL_law 138 = .ok (.aload_n 0, 1) := by decide +kernel
theorem dL_law_139 : decode cL_law 139 = .ok (.iload_n 3, 1) := by decide +kernel
theorem dL_law_140 : decode cL_law 140 = .ok (.iconst 1, 1) := by decide +kernel
theorem dL_law_141 : decode cL_law 141 = .ok (.iadd, 1) := by decide +kernel
theorem dL_law_142 : decode cL_law 142 = .ok (.iaload, 1) := by decide +kernel
theorem dL_law_143 : decode cL_law 143 = .ok (.invokevirtual 18, 3) := by decide +kernel
theorem dL_law_146 : decode cL_law 146 = .ok (.aload_n 2, 1) := by decide +kernel
theorem dL_law_147 : decode cL_law 147 = .ok (.aload_n 0, 1) := by decide +kernel
theorem dL_law_148 : decode cL_law 148 = .ok (.iload_n 3, 1) := by decide +kernel
theorem dL_law_149 : decode cL_law 149 = .ok (.iconst 1, 1) := by decide +kernel
theorem dL_law_150 : decode cL_law 150 = .ok (.iadd, 1) := by decide +kernel
theorem dL_law_151 : decode cL_law 151 = .ok (.iaload, 1) := by decide +kernel
theorem dL_law_152 : decode cL_law 152 = .ok (.invokevirtual 22, 3) := by decide +kernel
theorem dL_law_155 : decode cL_law 155 = .ok (.if_icmp .eq 271, 3) := by decide +kernel
theorem dL_law_158 : decode cL_law 158 = .ok (.iconst 0, 1) := by decide +kernel
theorem dL_law_159 : decode cL_law 159 = .ok (.ireturn, 1) := by decide +kernel
theorem dL_law_160 : decode cL_law 160 = .ok (.aload_n 1, 1) := by decide +kernel
theorem dL_law_161 : decode cL_law 161 = .ok (.aload_n 0, 1) := by decide +kernel
theorem dL_law_162 : decode cL_law 162 = .ok (.iload_n 3, 1) := by decide +kernel
theorem dL_law_163 : decode cL_law 163 = .ok (.iconst 1, 1) := by decide +kernel
theorem dL_law_164 : decode cL_law 164 = .ok (.iadd, 1) := by decide +kernel
theorem dL_law_165 : decode cL_law 165 = .ok (.iaload, 1) := by decide +kernel
theorem dL_law_166 : decode cL_law 166 = .ok (.invokevirtual 23, 3) := by decide +kernel
theorem dL_law_169 : decode cL_law 169 = .ok (.aload_n 2, 1) := by decide +kernel
theorem dL_law_170 : decode cL_law 170 = .ok (.aload_n 0, 1) := by decide +kernel
theorem dL_law_171 : decode cL_law 171 = .ok (.iload_n 3, 1) := by decide +kernel
theorem dL_law_172 : decode cL_law 172 = .ok (.iconst 1, 1) := by decide +kernel
theorem dL_law_173 : decode cL_law 173 = .ok (.iadd, 1) := by decide +kernel
theorem dL_law_174 : decode cL_law 174 = .ok (.iaload, 1) := by decide +kernel
theorem dL_law_175 : decode cL_law 175 = .ok (.invokevirtual 27, 3) := by decide +kernel
theorem dL_law_178 : decode cL_law 178 = .ok (.if_icmp .eq 248, 3) := by decide +kernel
theorem dL_law_181 : decode cL_law 181 = .ok (.iconst 0, 1) := by decide +kernel
theorem dL_law_182 : decode cL_law 182 = .ok (.ireturn, 1) := by decide +kernel
theorem dL_law_183 : decode cL_law 183 = .ok (.aload_n 1, 1) := by decide +kernel
theorem dL_law_184 : decode cL_law 184 = .ok (.aload_n 0, 1) := by decide +kernel
theorem dL_law_185 : decode cL_law 185 = .ok (.iload_n 3, 1) := by decide +kernel
theorem dL_law_186 : decode cL_law 186 = .ok (.iconst 1, 1) := by decide +kernel
theorem dL_law_187 : decode cL_law 187 = .ok (.iadd, 1) := by decide +kernel
theorem dL_law_188 : decode cL_law 188 = .ok (.iaload, 1) := by decide +kernel
theorem dL_law_189 : decode cL_law 189 = .ok (.invokevirtual 28, 3) := by decide +kernel
theorem dL_law_192 : decode cL_law 192 = .ok (.aload_n 2, 1) := by decide +kernel
theorem dL_law_193 : decode cL_law 193 = .ok (.aload_n 0, 1) := by decide +kernel
theorem dL_law_194 : decode cL_law 194 = .ok (.iload_n 3, 1) := by decide +kernel
theorem dL_law_195 : decode cL_law 195 = .ok (.iconst 1, 1) := by decide +kernel
theorem dL_law_196 : decode cL_law 196 = .ok (.iadd, 1) := by decide +kernel
theorem dL_law_197 : decode cL_law 197 = .ok (.iaload, 1) := by decide +kernel
theorem dL_law_198 : decode cL_law 198 = .ok (.invokevirtual 31, 3) := by decide +kernel
theorem dL_law_201 : decode cL_law 201 = .ok (.if_icmp .eq 225, 3) := by decide +kernel
theorem dL_law_204 : decode cL_law 204 = .ok (.iconst 0, 1) := by decide +kernel
theorem dL_law_205 : decode cL_law 205 = .ok (.ireturn, 1) := by decide +kernel
theorem dL_law_206 : decode cL_law 206 = .ok (.aload_n 1, 1) := by decide +kernel
theorem dL_law_207 : decode cL_law 207 = .ok (.invokevirtual 32, 3) := by decide +kernel
theorem dL_law_210 : decode cL_law 210 = .ok (.aload_n 2, 1) := by decide +kernel
theorem dL_law_211 : decode cL_law 211 = .ok (.invokevirtual 36, 3) := by decide +kernel
theorem dL_law_214 : decode cL_law 214 = .ok (.if_icmp .eq 212, 3) := by decide +kernel
theorem dL_law_217 : decode cL_law 217 = .ok (.iconst 0, 1) := by decide +kernel
theorem dL_law_218 : decode cL_law 218 = .ok (.ireturn, 1) := by decide +kernel
theorem dL_law_219 : decode cL_law 219 = .ok (.aload_n 1, 1) := by decide +kernel
theorem dL_law_220 : decode cL_law 220 = .ok (.invokevirtual 37, 3) := by decide +kernel
theorem dL_law_223 : decode cL_law 223 = .ok (.aload_n 2, 1) := by decide +kernel
theorem dL_law_224 : decode cL_law 224 = .ok (.invokevirtual 40, 3) := by decide +kernel
theorem dL_law_227 : decode cL_law 227 = .ok (.if_icmp .eq 199, 3) := by decide +kernel
theorem dL_law_230 : decode cL_law 230 = .ok (.iconst 0, 1) := by decide +kernel
theorem dL_law_231 : decode cL_law 231 = .ok (.ireturn, 1) := by decide +kernel
theorem dL_law_232 : decode cL_law 232 = .ok (.aload_n 1, 1) := by decide +kernel
theorem dL_law_233 : decode cL_law 233 = .ok (.invokevirtual 41, 3) := by decide +kernel
theorem dL_law_236 : decode cL_law 236 = .ok (.aload_n 2, 1) := by decide +kernel
theorem dL_law_237 : decode cL_law 237 = .ok (.invokevirtual 44, 3) := by decide +kernel
theorem dL_law_240 : decode cL_law 240 = .ok (.if_icmp .eq 186, 3) := by decide +kernel
theorem dL_law_243 : decode cL_law 243 = .ok (.iconst 0, 1) := by decide +kernel
theorem dL_law_244 : decode cL_law 244 = .ok (.ireturn, 1) := by decide +kernel
theorem dL_law_245 : decode cL_law 245 = .ok (.aload_n 1, 1) := by decide +kernel
theorem dL_law_246 : decode cL_law 246 = .ok (.aload_n 0, 1) := by decide +kernel
theorem dL_law_247 : decode cL_law 247 = .ok (.iload_n 3, 1) := by decide +kernel
theorem dL_law_248 : decode cL_law 248 = .ok (.iconst 1, 1) := by decide +kernel
theorem dL_law_249 : decode cL_law 249 = .ok (.iadd, 1) := by decide +kernel
theorem dL_law_250 : decode cL_law 250 = .ok (.iaload, 1) := by decide +kernel
theorem dL_law_251 : decode cL_law 251 = .ok (.invokevirtual 45, 3) := by decide +kernel
theorem dL_law_254 : decode cL_law 254 = .ok (.aload_n 2, 1) := by decide +kernel
theorem dL_law_255 : decode cL_law 255 = .ok (.aload_n 0, 1) := by decide +kernel
theorem dL_law_256 : decode cL_law 256 = .ok (.iload_n 3, 1) := by decide +kernel
theorem dL_law_257 : decode cL_law 257 = .ok (.iconst 1, 1) := by decide +kernel
theorem dL_law_258 : decode cL_law 258 = .ok (.iadd, 1) := by decide +kernel
theorem dL_law_259 : decode cL_law 259 = .ok (.iaload, 1) := by decide +kernel
theorem dL_law_260 : decode cL_law 260 = .ok (.invokevirtual 48, 3) := by decide +kernel
theorem dL_law_263 : decode cL_law 263 = .ok (.if_icmp .eq 163, 3) := by decide +kernel
theorem dL_law_266 : decode cL_law 266 = .ok (.iconst 0, 1) := by decide +kernel
theorem dL_law_267 : decode cL_law 267 = .ok (.ireturn, 1) := by decide +kernel
theorem dL_law_268 : decode cL_law 268 = .ok (.aload_n 1, 1) := by decide +kernel
theorem dL_law_269 : decode cL_law 269 = .ok (.aload_n 0, 1) := by decide +kernel
theorem dL_law_270 : decode cL_law 270 = .ok (.iload_n 3, 1) := by decide +kernel
theorem dL_law_271 : decode cL_law 271 = .ok (.iconst 1, 1) := by decide +kernel
theorem dL_law_272 : decode cL_law 272 = .ok (.iadd, 1) := by decide +kernel
theorem dL_law_273 : decode cL_law 273 = .ok (.iaload, 1) := by decide +kernel
theorem dL_law_274 : decode cL_law 274 = .ok (.invokevirtual 49, 3) := by decide +kernel
theorem dL_law_277 : decode cL_law 277 = .ok (.aload_n 2, 1) := by decide +kernel
theorem dL_law_278 : decode cL_law 278 = .ok (.aload_n 0, 1) := by decide +kernel
theorem dL_law_279 : decode cL_law 279 = .ok (.iload_n 3, 1) := by decide +kernel
theorem dL_law_280 : decode cL_law 280 = .ok (.iconst 1, 1) := by decide +kernel
theorem dL_law_281 : decode cL_law 281 = .ok (.iadd, 1) := by decide +kernel
theorem dL_law_282 : decode cL_law 282 = .ok (.iaload, 1) := by decide +kernel
theorem dL_law_283 : decode cL_law 283 = .ok (.invokevirtual 52, 3) := by decide +kernel
theorem dL_law_286 : decode cL_law 286 = .ok (.if_icmp .eq 140, 3) := by decide +kernel
theorem dL_law_289 : decode cL_law 289 = .ok (.iconst 0, 1) := by decide +kernel
theorem dL_law_290 : decode cL_law 290 = .ok (.ireturn, 1) := by decide +kernel
theorem dL_law_291 : decode cL_law 291 = .ok (.aload_n 1, 1) := by decide +kernel
theorem dL_law_292 : decode cL_law 292 = .ok (.aload_n 0, 1) := by decide +kernel
theorem dL_law_293 : decode cL_law 293 = .ok (.iload_n 3, 1) := by decide +kernel
theorem dL_law_294 : decode cL_law 294 = .ok (.iconst 1, 1) := by decide +kernel
theorem dL_law_295 : decode cL_law 295 = .ok (.iadd, 1) := by decide +kernel
theorem dL_law_296 : decode cL_law 296 = .ok (.iaload, 1) := by decide +kernel
theorem dL_law_297 : decode cL_law 297 = .ok (.aload_n 0, 1) := by decide +kernel
theorem dL_law_298 : decode cL_law 298 = .ok (.iload_n 3, 1) := by decide +kernel
theorem dL_law_299 : decode cL_law 299 = .ok (.iconst 2, 1) := by decide +kernel
theorem dL_law_300 : decode cL_law 300 = .ok (.iadd, 1) := by decide +kernel
theorem dL_law_301 : decode cL_law 301 = .ok (.iaload, 1) := by decide +kernel
theorem dL_law_302 : decode cL_law 302 = .ok (.invokevirtual 53, 3) := by decide +kernel
theorem dL_law_305 : decode cL_law 305 = .ok (.aload_n 2, 1) := by decide +kernel
theorem dL_law_306 : decode cL_law 306 = .ok (.aload_n 0, 1) := by decide +kernel
theorem dL_law_307 : decode cL_law 307 = .ok (.iload_n 3, 1) := by decide +kernel
theorem dL_law_308 : decode cL_law 308 = .ok (.iconst 1, 1) := by decide +kernel
theorem dL_law_309 : decode cL_law 309 = .ok (.iadd, 1) := by decide +kernel
theorem dL_law_310 : decode cL_law 310 = .ok (.iaload, 1) := by decide +kernel
theorem dL_law_311 : decode cL_law 311 = .ok (.aload_n 0, 1) := by decide +kernel
theorem dL_law_312 : decode cL_law 312 = .ok (.iload_n 3, 1) := by decide +kernel
theorem dL_law_313 : decode cL_law 313 = .ok (.iconst 2, 1) := by decide +kernel
theorem dL_law_314 : decode cL_law 314 = .ok (.iadd, 1) := by decide +kernel
theorem dL_law_315 : decode cL_law 315 = .ok (.iaload, 1) := by decide +kernel
theorem dL_law_316 : decode cL_law 316 = .ok (.invokevirtual 56, 3) := by decide +kernel
theorem dL_law_319 : decode cL_law 319 = .ok (.if_icmp .eq 107, 3) := by decide +kernel
theorem dL_law_322 : decode cL_law 322 = .ok (.iconst 0, 1) := by decide +kernel
theorem dL_law_323 : decode cL_law 323 = .ok (.ireturn, 1) := by decide +kernel
theorem dL_law_324 : decode cL_law 324 = .ok (.aload_n 1, 1) := by decide +kernel
theorem dL_law_325 : decode cL_law 325 = .ok (.aload_n 0, 1) := by decide +kernel
theorem dL_law_326 : decode cL_law 326 = .ok (.iload_n 3, 1) := by decide +kernel
theorem dL_law_327 : decode cL_law 327 = .ok (.iconst 1, 1) := by decide +kernel
theorem dL_law_328 : decode cL_law 328 = .ok (.iadd, 1) := by decide +kernel
theorem dL_law_329 : decode cL_law 329 = .ok (.iaload, 1) := by decide +kernel
theorem dL_law_330 : decode cL_law 330 = .ok (.aload_n 0, 1) := by decide +kernel
theorem dL_law_331 : decode cL_law 331 = .ok (.iload_n 3, 1) := by decide +kernel
theorem dL_law_332 : decode cL_law 332 = .ok (.iconst 2, 1) := by decide +kernel
theorem dL_law_333 : decode cL_law 333 = .ok (.iadd, 1) := by decide +kernel
theorem dL_law_334 : decode cL_law 334 = .ok (.iaload, 1) := by decide +kernel
theorem dL_law_335 : decode cL_law 335 = .ok (.invokevirtual 57, 3) := by decide +kernel
theorem dL_law_338 : decode cL_law 338 = .ok (.aload_n 2, 1) := by decide +kernel
theorem dL_law_339 : decode cL_law 339 = .ok (.aload_n 0, 1) := by decide +kernel
theorem dL_law_340 : decode cL_law 340 = .ok (.iload_n 3, 1) := by decide +kernel
theorem dL_law_341 : decode cL_law 341 = .ok (.iconst 1, 1) := by decide +kernel
theorem dL_law_342 : decode cL_law 342 = .ok (.iadd, 1) := by decide +kernel
theorem dL_law_343 : decode cL_law 343 = .ok (.iaload, 1) := by decide +kernel
theorem dL_law_344 : decode cL_law 344 = .ok (.aload_n 0, 1) := by decide +kernel
theorem dL_law_345 : decode cL_law 345 = .ok (.iload_n 3, 1) := by decide +kernel
theorem dL_law_346 : decode cL_law 346 = .ok (.iconst 2, 1) := by decide +kernel
theorem dL_law_347 : decode cL_law 347 = .ok (.iadd, 1) := by decide +kernel
theorem dL_law_348 : decode cL_law 348 = .ok (.iaload, 1) := by decide +kernel
theorem dL_law_349 : decode cL_law 349 = .ok (.invokevirtual 61, 3) := by decide +kernel
theorem dL_law_352 : decode cL_law 352 = .ok (.if_icmp .eq 74, 3) := by decide +kernel
theorem dL_law_355 : decode cL_law 355 = .ok (.iconst 0, 1) := by decide +kernel
theorem dL_law_356 : decode cL_law 356 = .ok (.ireturn, 1) := by decide +kernel
theorem dL_law_357 : decode cL_law 357 = .ok (.aload_n 1, 1) := by decide +kernel
theorem dL_law_358 : decode cL_law 358 = .ok (.aload_n 0, 1) := by decide +kernel
theorem dL_law_359 : decode cL_law 359 = .ok (.iload_n 3, 1) := by decide +kernel
theorem dL_law_360 : decode cL_law 360 = .ok (.iconst 1, 1) := by decide +kernel
theorem dL_law_361 : decode cL_law 361 = .ok (.iadd, 1) := by decide +kernel
theorem dL_law_362 : decode cL_law 362 = .ok (.iaload, 1) := by decide +kernel
theorem dL_law_363 : decode cL_law 363 = .ok (.invokevirtual 62, 3) := by decide +kernel
theorem dL_law_366 : decode cL_law 366 = .ok (.aload_n 2, 1) := by decide +kernel
theorem dL_law_367 : decode cL_law 367 = .ok (.aload_n 0, 1) := by decide +kernel
theorem dL_law_368 : decode cL_law 368 = .ok (.iload_n 3, 1) := by decide +kernel
theorem dL_law_369 : decode cL_law 369 = .ok (.iconst 1, 1) := by decide +kernel
theorem dL_law_370 : decode cL_law 370 = .ok (.iadd, 1) := by decide +kernel
theorem dL_law_371 : decode cL_law 371 = .ok (.iaload, 1) := by decide +kernel
theorem dL_law_372 : decode cL_law 372 = .ok (.invokevirtual 65, 3) := by decide +kernel
theorem dL_law_375 : decode cL_law 375 = .ok (.if_icmp .eq 51, 3) := by decide +kernel
theorem dL_law_378 : decode cL_law 378 = .ok (.iconst 0, 1) := by decide +kernel
theorem dL_law_379 : decode cL_law 379 = .ok (.ireturn, 1) := by decide +kernel
theorem dL_law_380 : decode cL_law 380 = .ok (.aload_n 1, 1) := by decide +kernel
theorem dL_law_381 : decode cL_law 381 = .ok (.aload_n 0, 1) := by decide +kernel
theorem dL_law_382 : decode cL_law 382 = .ok (.iload_n 3, 1) := by decide +kernel
theorem dL_law_383 : decode cL_law 383 = .ok (.iconst 1, 1) := by decide +kernel
theorem dL_law_384 : decode cL_law 384 = .ok (.iadd, 1) := by decide +kernel
theorem dL_law_385 : decode cL_law 385 = .ok (.iaload, 1) := by decide +kernel
theorem dL_law_386 : decode cL_law 386 = .ok (.invokevirtual 66, 3) := by decide +kernel
theorem dL_law_389 : decode cL_law 389 = .ok (.aload_n 2, 1) := by decide +kernel
theorem dL_law_390 : decode cL_law 390 = .ok (.aload_n 0, 1) := by decide +kernel
theorem dL_law_391 : decode cL_law 391 = .ok (.iload_n 3, 1) := by decide +kernel
theorem dL_law_392 : decode cL_law 392 = .ok (.iconst 1, 1) := by decide +kernel
theorem dL_law_393 : decode cL_law 393 = .ok (.iadd, 1) := by decide +kernel
theorem dL_law_394 : decode cL_law 394 = .ok (.iaload, 1) := by decide +kernel
theorem dL_law_395 : decode cL_law 395 = .ok (.invokevirtual 69, 3) := by decide +kernel
theorem dL_law_398 : decode cL_law 398 = .ok (.if_icmp .eq 28, 3) := by decide +kernel
theorem dL_law_401 : decode cL_law 401 = .ok (.iconst 0, 1) := by decide +kernel
theorem dL_law_402 : decode cL_law 402 = .ok (.ireturn, 1) := by decide +kernel
theorem dL_law_403 : decode cL_law 403 = .ok (.aload_n 1, 1) := by decide +kernel
theorem dL_law_404 : decode cL_law 404 = .ok (.aload_n 0, 1) := by decide +kernel
theorem dL_law_405 : decode cL_law 405 = .ok (.iload_n 3, 1) := by decide +kernel
theorem dL_law_406 : decode cL_law 406 = .ok (.iconst 1, 1) := by decide +kernel
theorem dL_law_407 : decode cL_law 407 = .ok (.iadd, 1) := by decide +kernel
theorem dL_law_408 : decode cL_law 408 = .ok (.iaload, 1) := by decide +kernel
theorem dL_law_409 : decode cL_law 409 = .ok (.invokevirtual 70, 3) := by decide +kernel
theorem dL_law_412 : decode cL_law 412 = .ok (.aload_n 2, 1) := by decide +kernel
theorem dL_law_413 : decode cL_law 413 = .ok (.aload_n 0, 1) := by decide +kernel
theorem dL_law_414 : decode cL_law 414 = .ok (.iload_n 3, 1) := by decide +kernel
theorem dL_law_415 : decode cL_law 415 = .ok (.iconst 1, 1) := by decide +kernel
theorem dL_law_416 : decode cL_law 416 = .ok (.iadd, 1) := by decide +kernel
theorem dL_law_417 : decode cL_law 417 = .ok (.iaload, 1) := by decide +kernel
theorem dL_law_418 : decode cL_law 418 = .ok (.invokevirtual 73, 3) := by decide +kernel
theorem dL_law_421 : decode cL_law 421 = .ok (.if_icmp .eq 5, 3) := by decide +kernel
theorem dL_law_424 : decode cL_law 424 = .ok (.iconst 0, 1) := by decide +kernel
theorem dL_law_425 : decode cL_law 425 = .ok (.ireturn, 1) := by decide +kernel
theorem dL_law_426 : decode cL_law 426 = .ok (.iinc 3 3, 3) := by decide +kernel
theorem dL_law_429 : decode cL_law 429 = .ok (.goto (-411), 3) := by decide +kernel
theorem dL_law_432 : decode cL_law 432 = .ok (.iconst 1, 1) := by decide +kernel
theorem dL_law_433 : decode cL_law 433 = .ok (.ireturn, 1) := by decide +kernel

theorem q12 : (Jvm.Cond.initialized "SplitDirectoryLaw") ∈ lw_all := lw_g (lw_at lw_m0 0 rfl) rfl
set_option maxRecDepth 100000
theorem q15 : (Jvm.Cond.classLink "SplitDirectoryLaw" (7 : Nat) "SplitDirectory") ∈ lw_all := lw_g (lw_at lw_m0 3 rfl) rfl
theorem q17 : (Jvm.Cond.methodLink "SplitDirectoryLaw" (9 : Nat) ({ cls := "SplitDirectory", name := "<init>", desc := "()V" } : Jvm.MethodName)) ∈ lw_all := lw_g (lw_at lw_m0 5 rfl) rfl
theorem q55 : (Jvm.Cond.methodLink "SplitDirectoryLaw" (13 : Nat) ({ cls := "SplitDirectory", name := "put", desc := "(II)I" } : Jvm.MethodName)) ∈ lw_all := lw_g (lw_at lw_m0 43 rfl) rfl
theorem q86 : (Jvm.Cond.methodLink "SplitDirectoryLaw" (18 : Nat) ({ cls := "SplitDirectory", name := "remove", desc := "(I)I" } : Jvm.MethodName)) ∈ lw_all := lw_g (lw_at lw_m0 74 rfl) rfl
theorem q106 : (Jvm.Cond.methodLink "SplitDirectoryLaw" (23 : Nat) ({ cls := "SplitDirectory", name := "has", desc := "(I)Z" } : Jvm.MethodName)) ∈ lw_all := lw_g (lw_at lw_m0 94 rfl) rfl
theorem q107 : (Jvm.Cond.methodLink "SplitDirectoryLaw" (28 : Nat) ({ cls := "SplitDirectory", name := "get", desc := "(I)I" } : Jvm.MethodName)) ∈ lw_all := lw_g (lw_at lw_m0 95 rfl) rfl
theorem q111 : (Jvm.Cond.methodLink "SplitDirectoryLaw" (32 : Nat) ({ cls := "SplitDirectory", name := "size", desc := "()I" } : Jvm.MethodName)) ∈ lw_all := lw_g (lw_at lw_m0 99 rfl) rfl
theorem q115 : (Jvm.Cond.methodLink "SplitDirectoryLaw" (37 : Nat) ({ cls := "SplitDirectory", name := "buckets", desc := "()I" } : Jvm.MethodName)) ∈ lw_all := lw_g (lw_at lw_m0 103 rfl) rfl
theorem q119 : (Jvm.Cond.methodLink "SplitDirectoryLaw" (41 : Nat) ({ cls := "SplitDirectory", name := "deepest", desc := "()I" } : Jvm.MethodName)) ∈ lw_all := lw_g (lw_at lw_m0 107 rfl) rfl
theorem q120 : (Jvm.Cond.methodLink "SplitDirectoryLaw" (45 : Nat) ({ cls := "SplitDirectory", name := "depthOf", desc := "(I)I" } : Jvm.MethodName)) ∈ lw_all := lw_g (lw_at lw_m0 108 rfl) rfl
theorem q124 : (Jvm.Cond.methodLink "SplitDirectoryLaw" (49 : Nat) ({ cls := "SplitDirectory", name := "load", desc := "(I)I" } : Jvm.MethodName)) ∈ lw_all := lw_g (lw_at lw_m0 112 rfl) rfl
theorem q128 : (Jvm.Cond.methodLink "SplitDirectoryLaw" (53 : Nat) ({ cls := "SplitDirectory", name := "inBucket", desc := "(II)I" } : Jvm.MethodName)) ∈ lw_all := lw_g (lw_at lw_m0 116 rfl) rfl
theorem q132 : (Jvm.Cond.methodLink "SplitDirectoryLaw" (57 : Nat) ({ cls := "SplitDirectory", name := "together", desc := "(II)Z" } : Jvm.MethodName)) ∈ lw_all := lw_g (lw_at lw_m0 120 rfl) rfl
theorem q136 : (Jvm.Cond.methodLink "SplitDirectoryLaw" (62 : Nat) ({ cls := "SplitDirectory", name := "ofDepth", desc := "(I)I" } : Jvm.MethodName)) ∈ lw_all := lw_g (lw_at lw_m0 124 rfl) rfl
theorem q140 : (Jvm.Cond.methodLink "SplitDirectoryLaw" (66 : Nat) ({ cls := "SplitDirectory", name := "next", desc := "(I)I" } : Jvm.MethodName)) ∈ lw_all := lw_g (lw_at lw_m0 128 rfl) rfl
theorem q144 : (Jvm.Cond.methodLink "SplitDirectoryLaw" (70 : Nat) ({ cls := "SplitDirectory", name := "growth", desc := "(I)I" } : Jvm.MethodName)) ∈ lw_all := lw_g (lw_at lw_m0 132 rfl) rfl
theorem q149 : (Jvm.Cond.classLink "SplitDirectoryLaw" (10 : Nat) "SplitDirectoryModel") ∈ lw_all := lw_g (lw_at lw_m0 137 rfl) rfl
theorem q151 : (Jvm.Cond.methodLink "SplitDirectoryLaw" (12 : Nat) ({ cls := "SplitDirectoryModel", name := "<init>", desc := "()V" } : Jvm.MethodName)) ∈ lw_all := lw_g (lw_at lw_m0 139 rfl) rfl
theorem q165 : (Jvm.Cond.methodLink "SplitDirectoryLaw" (17 : Nat) ({ cls := "SplitDirectoryModel", name := "put", desc := "(II)I" } : Jvm.MethodName)) ∈ lw_all := lw_g (lw_at lw_m0 153 rfl) rfl
theorem q197 : (Jvm.Cond.methodLink "SplitDirectoryLaw" (22 : Nat) ({ cls := "SplitDirectoryModel", name := "remove", desc := "(I)I" } : Jvm.MethodName)) ∈ lw_all := lw_g (lw_at lw_m0 185 rfl) rfl
theorem q205 : (Jvm.Cond.methodLink "SplitDirectoryLaw" (27 : Nat) ({ cls := "SplitDirectoryModel", name := "has", desc := "(I)Z" } : Jvm.MethodName)) ∈ lw_all := lw_g (lw_at lw_m0 193 rfl) rfl
theorem q206 : (Jvm.Cond.methodLink "SplitDirectoryLaw" (31 : Nat) ({ cls := "SplitDirectoryModel", name := "get", desc := "(I)I" } : Jvm.MethodName)) ∈ lw_all := lw_g (lw_at lw_m0 194 rfl) rfl
theorem q210 : (Jvm.Cond.methodLink "SplitDirectoryLaw" (36 : Nat) ({ cls := "SplitDirectoryModel", name := "size", desc := "()I" } : Jvm.MethodName)) ∈ lw_all := lw_g (lw_at lw_m0 198 rfl) rfl
theorem q211 : (Jvm.Cond.methodLink "SplitDirectoryLaw" (40 : Nat) ({ cls := "SplitDirectoryModel", name := "buckets", desc := "()I" } : Jvm.MethodName)) ∈ lw_all := lw_g (lw_at lw_m0 199 rfl) rfl
theorem q212 : (Jvm.Cond.methodLink "SplitDirectoryLaw" (44 : Nat) ({ cls := "SplitDirectoryModel", name := "deepest", desc := "()I" } : Jvm.MethodName)) ∈ lw_all := lw_g (lw_at lw_m0 200 rfl) rfl
theorem q216 : (Jvm.Cond.methodLink "SplitDirectoryLaw" (48 : Nat) ({ cls := "SplitDirectoryModel", name := "depthOf", desc := "(I)I" } : Jvm.MethodName)) ∈ lw_all := lw_g (lw_at lw_m0 204 rfl) rfl
theorem q220 : (Jvm.Cond.methodLink "SplitDirectoryLaw" (52 : Nat) ({ cls := "SplitDirectoryModel", name := "load", desc := "(I)I" } : Jvm.MethodName)) ∈ lw_all := lw_g (lw_at lw_m0 208 rfl) rfl
theorem q225 : (Jvm.Cond.methodLink "SplitDirectoryLaw" (56 : Nat) ({ cls := "SplitDirectoryModel", name := "inBucket", desc := "(II)I" } : Jvm.MethodName)) ∈ lw_all := lw_g (lw_at lw_m0 213 rfl) rfl
theorem q229 : (Jvm.Cond.methodLink "SplitDirectoryLaw" (61 : Nat) ({ cls := "SplitDirectoryModel", name := "together", desc := "(II)Z" } : Jvm.MethodName)) ∈ lw_all := lw_g (lw_at lw_m0 217 rfl) rfl
theorem q233 : (Jvm.Cond.methodLink "SplitDirectoryLaw" (65 : Nat) ({ cls := "SplitDirectoryModel", name := "ofDepth", desc := "(I)I" } : Jvm.MethodName)) ∈ lw_all := lw_g (lw_at lw_m0 221 rfl) rfl
theorem q234 : (Jvm.Cond.methodLink "SplitDirectoryLaw" (69 : Nat) ({ cls := "SplitDirectoryModel", name := "next", desc := "(I)I" } : Jvm.MethodName)) ∈ lw_all := lw_g (lw_at lw_m0 222 rfl) rfl
theorem q238 : (Jvm.Cond.methodLink "SplitDirectoryLaw" (73 : Nat) ({ cls := "SplitDirectoryModel", name := "growth", desc := "(I)I" } : Jvm.MethodName)) ∈ lw_all := lw_g (lw_at lw_m0 226 rfl) rfl
end
section
/-! rows of our own: numbers; instructions over Nat; the world as one bundle; calls and entries -/
abbrev vwCl : List vw_C := [(RX0, TX0, 9), (RX1, TX1, 3)]
theorem ar_sl : ∀ n, n < 32 → ((nI n &&& 31).toBitVec.smod 32).toNat = n := by decide +kernel
theorem ar_shl : ∀ d, d < 31 → nI 1 <<< (nI d &&& 31) = nI (2 ^ d) := by decide +kernel
theorem ar_shr {a d : Nat} (ha : a < 2 ^ 31) (hd : d < 32) : nI a >>> (nI d &&& 31) = nI (a / 2 ^ d) := pk_shrN ha _ d (ar_sl d hd)
theorem ar_and {a d : Nat} (ha : a < 2 ^ 31) (hd : d < 31) : nI a &&& nI (2 ^ d - 1) = nI (a % 2 ^ d) := by
  have h2 : (2 : Nat) ^ d ≤ 2 ^ 30 := Nat.pow_le_pow_right (by omega) (by omega)
  exact pk_andN (by omega) d (pk_tn (by omega))
theorem ar_and1 {a : Nat} (ha : a < 2 ^ 31) : nI a &&& nI 1 = nI (a % 2) := ar_and (d := 1) ha (by omega)
theorem ar_xor (a b : Nat) : nI a ^^^ nI b = nI (a ^^^ b) := by
  apply Int32.toBitVec_inj.1
  show BitVec.ofNat 32 a ^^^ BitVec.ofNat 32 b = BitVec.ofNat 32 (a ^^^ b)
  apply BitVec.eq_of_getLsbD_eq
  intro i hi
  simp [hi]
theorem ar_b : ∀ a, a < 128 → (nI a).toInt8.toInt32 = nI a := by decide +kernel
theorem ar_s {a : Nat} (h : a < 256) : (nI a).toInt16.toInt32 = nI a := (by decide +kernel : ∀ a, a < 256 → (nI a).toInt16.toInt32 = nI a) a h
theorem ar_z : ∀ b : Bool, vp_nar .boolean (nI b.toNat) = nI b.toNat := by decide +kernel
theorem ar_zn : ∀ b : Bool, narrow .boolean (.int (nI b.toNat)) = .int (nI b.toNat) := by
  intro b
  cases b <;> rfl
theorem ar_z0 (b : Bool) : nI b.toNat = 0 ↔ b = false := by cases b <;> decide
theorem ar_n0 {a : Nat} (h : a < 2 ^ 31) : nI a = 0 ↔ a = 0 := by
  rw [← nI_0]
  exact nI_eq h (by omega)
theorem ar_nI_neg {a : Nat} (h : a < 2 ^ 31) : ¬ nI a < 0 := nI_pos h
theorem ar_m1 {a : Nat} (h : a < 2 ^ 31) : nI a ≠ -1 := by
  intro q
  have h1 := nI_pos h
  rw [q] at h1
  exact h1 (by decide)
theorem ar_upd {f : Nat → Nat} {k v : Nat} {x : Int32} (hk : k < 2 ^ 31) (hx : x = nI v) : upd (fun j => nI (f j)) (nI k).toNatClampNeg x = fun j => nI (va_up f k v j) := by
  rw [nI_clamp hk, hx]
  funext j
  unfold upd va_up
  split <;> rfl
theorem ar_updB {f : Nat → Bool} {k : Nat} {v : Bool} {x : Int32} (hk : k < 2 ^ 31) (hx : x = nI v.toNat) : upd (fun j => nI (f j).toNat) (nI k).toNatClampNeg x = fun j => nI (va_up f k v j).toNat := by
  rw [nI_clamp hk, hx]
  funext j
  unfold upd va_up
  split <;> rfl
theorem ar_updI {f : Nat → Int32} {k : Nat} {x : Int32} (hk : k < 2 ^ 31) : upd f (nI k).toNatClampNeg x = va_up f k x := by
  rw [nI_clamp hk]
  rfl
/-- a key: one of 0 .. 255 -/
def kB (k : Int32) : Bool := decide (0 ≤ k) && decide (k < 256)
theorem kB_nI {j : Nat} (h : j < 256) : kB (nI j) = true := by
  unfold kB
  have h1 : (0 : Int32) ≤ nI j := nI_pos' (by omega)
  have h2 : nI j < 256 := nI_lt (b := 256) h (by omega)
  simp [h1, h2]
theorem kB_of {k : Int32} (h : kB k = true) : ∃ j : Nat, j < 256 ∧ k = nI j := by
  unfold kB at h
  simp only [Bool.and_eq_true, decide_eq_true_eq] at h
  have hn : ¬ k < 0 := fun q => by
    have := h.1
    grind
  obtain ⟨j, hj, rfl⟩ := nI_of hn
  refine ⟨j, ?_, rfl⟩
  have h3 : nI j < nI 256 := h.2
  exact (nI_ltI hj (by omega)).mp h3

section ROWS_R
variable {p : Program} {l : Launch} {e : Env} {R : Room} {s : State} {m : MethodId} {args : Array Value} {below : List Frame} {meth : Method} {c : Code} {H : Heap} {locs : List Loc} {cells slots : Nat} {Q : State → Prop}
variable {cc : ByteArray} {pc : Nat} {ls : Array Slot} {rest : List Value} {nL : Nat} {own : String} {D : va_G} {tys : List (ClassId × FieldType)} {A : Nat → Prop} {w : va_W} {a0 : Nat}
theorem nv_iadd {a b : Nat} (F : CallFix p m c cc nL s args lw_all own) (hdg : decode cc pc = .ok (.iadd, 1)) (kk : W p l e R s m args below meth c H locs cells slots Q (F0 m (pc + 1) ls (.int (nI (a + b)) :: rest))) : W p l e R s m args below meth c H locs cells slots Q (F0 m pc ls (.int (nI b) :: .int (nI a) :: rest)) := lv_iadd F.1 F.2.1 hdg (by rw [nI_add]; exact kk)
theorem nv_isub {a b : Nat} (F : CallFix p m c cc nL s args lw_all own) (h : b ≤ a) (hdg : decode cc pc = .ok (.isub, 1)) (kk : W p l e R s m args below meth c H locs cells slots Q (F0 m (pc + 1) ls (.int (nI (a - b)) :: rest))) : W p l e R s m args below meth c H locs cells slots Q (F0 m pc ls (.int (nI b) :: .int (nI a) :: rest)) := lv_isub F.1 F.2.1 hdg (by rw [pk_sub h]; exact kk)
theorem nv_imul {a b : Nat} (F : CallFix p m c cc nL s args lw_all own) (hdg : decode cc pc = .ok (.imul, 1)) (kk : W p l e R s m args below meth c H locs cells slots Q (F0 m (pc + 1) ls (.int (nI (a * b)) :: rest))) : W p l e R s m args below meth c H locs cells slots Q (F0 m pc ls (.int (nI b) :: .int (nI a) :: rest)) := lv_imul F.1 F.2.1 hdg (by rw [pk_mul]; exact kk)
theorem nv_ixor {a b : Nat} (F : CallFix p m c cc nL s args lw_all own) (hdg : decode cc pc = .ok (.ixor, 1)) (kk : W p l e R s m args below meth c H locs cells slots Q (F0 m (pc + 1) ls (.int (nI (a ^^^ b)) :: rest))) : W p l e R s m args below meth c H locs cells slots Q (F0 m pc ls (.int (nI b) :: .int (nI a) :: rest)) := lv_ixor F.1 F.2.1 hdg (by rw [ar_xor]; exact kk)
theorem nv_ishr {a b : Nat} (F : CallFix p m c cc nL s args lw_all own) (ha : a < 2 ^ 31) (h : b < 32) (hdg : decode cc pc = .ok (.ishr, 1)) (kk : W p l e R s m args below meth c H locs cells slots Q (F0 m (pc + 1) ls (.int (nI (a / 2 ^ b)) :: rest))) : W p l e R s m args below meth c H locs cells slots Q (F0 m pc ls (.int (nI b) :: .int (nI a) :: rest)) := lv_ishr F.1 F.2.1 hdg (by rw [ar_shr ha h]; exact kk)
theorem nv_shl1 {b : Nat} (F : CallFix p m c cc nL s args lw_all own) (h : b < 31) (hdg : decode cc pc = .ok (.ishl, 1)) (kk : W p l e R s m args below meth c H locs cells slots Q (F0 m (pc + 1) ls (.int (nI (2 ^ b)) :: rest))) : W p l e R s m args below meth c H locs cells slots Q (F0 m pc ls (.int (nI b) :: .int (nI 1) :: rest)) := lv_ishl F.1 F.2.1 hdg (by rw [ar_shl b h]; exact kk)
theorem nv_mask {a d : Nat} (F : CallFix p m c cc nL s args lw_all own) (ha : a < 2 ^ 31) (h : d < 31) (hdg : decode cc pc = .ok (.iand, 1)) (kk : W p l e R s m args below meth c H locs cells slots Q (F0 m (pc + 1) ls (.int (nI (a % 2 ^ d)) :: rest))) : W p l e R s m args below meth c H locs cells slots Q (F0 m pc ls (.int (nI (2 ^ d - 1)) :: .int (nI a) :: rest)) := lv_iand F.1 F.2.1 hdg (by rw [ar_and ha h]; exact kk)
theorem nv_and1 {a : Nat} (F : CallFix p m c cc nL s args lw_all own) (ha : a < 2 ^ 31) (hdg : decode cc pc = .ok (.iand, 1)) (kk : W p l e R s m args below meth c H locs cells slots Q (F0 m (pc + 1) ls (.int (nI (a % 2)) :: rest))) : W p l e R s m args below meth c H locs cells slots Q (F0 m pc ls (.int (nI 1) :: .int (nI a) :: rest)) := lv_iand F.1 F.2.1 hdg (by rw [ar_and1 ha]; exact kk)
theorem nv_i2b {a : Nat} (F : CallFix p m c cc nL s args lw_all own) (ha : a < 128) (hdg : decode cc pc = .ok (.i2b, 1)) (kk : W p l e R s m args below meth c H locs cells slots Q (F0 m (pc + 1) ls (.int (nI a) :: rest))) : W p l e R s m args below meth c H locs cells slots Q (F0 m pc ls (.int (nI a) :: rest)) := lv_i2b F.1 F.2.1 hdg (ar_b a ha) kk
theorem nv_i2s {a : Nat} (F : CallFix p m c cc nL s args lw_all own) (ha : a < 256) (hdg : decode cc pc = .ok (.i2s, 1)) (kk : W p l e R s m args below meth c H locs cells slots Q (F0 m (pc + 1) ls (.int (nI a) :: rest))) : W p l e R s m args below meth c H locs cells slots Q (F0 m pc ls (.int (nI a) :: rest)) := lv_i2s F.1 F.2.1 hdg (ar_s ha) kk
theorem nv_icmp_ge {a b : Nat} {off : Int} {tgt : Nat} (F : CallFix p m c cc nL s args lw_all own) (hdg : decode cc pc = .ok (.if_icmp .ge off, 3)) (ht : (pc : Int) + off = (tgt : Int)) (ha : a < 2 ^ 31) (hb : b < 2 ^ 31) (kt : b ≤ a → W p l e R s m args below meth c H locs cells slots Q (F0 m tgt ls rest)) (kf : a < b → W p l e R s m args below meth c H locs cells slots Q (F0 m (pc + 3) ls rest)) : W p l e R s m args below meth c H locs cells slots Q (F0 m pc ls (.int (nI b) :: .int (nI a) :: rest)) := lv_icmp_ge F.1 F.2.1 hdg ht (fun h => kt ((nI_leI hb ha).mp h)) (fun h => kf (Nat.lt_of_not_le fun q => h ((nI_leI hb ha).mpr q)))
theorem nv_icmp_gt {a b : Nat} {off : Int} {tgt : Nat} (F : CallFix p m c cc nL s args lw_all own) (hdg : decode cc pc = .ok (.if_icmp .gt off, 3)) (ht : (pc : Int) + off = (tgt : Int)) (ha : a < 2 ^ 31) (hb : b < 2 ^ 31) (kt : b < a → W p l e R s m args below meth c H locs cells slots Q (F0 m tgt ls rest)) (kf : a ≤ b → W p l e R s m args below meth c H locs cells slots Q (F0 m (pc + 3) ls rest)) : W p l e R s m args below meth c H locs cells slots Q (F0 m pc ls (.int (nI b) :: .int (nI a) :: rest)) := lv_icmp_gt F.1 F.2.1 hdg ht (fun h => kt ((nI_ltI hb ha).mp h)) (fun h => kf (Nat.le_of_not_lt fun q => h ((nI_ltI hb ha).mpr q)))
theorem nv_icmp_le {a b : Nat} {off : Int} {tgt : Nat} (F : CallFix p m c cc nL s args lw_all own) (hdg : decode cc pc = .ok (.if_icmp .le off, 3)) (ht : (pc : Int) + off = (tgt : Int)) (ha : a < 2 ^ 31) (hb : b < 2 ^ 31) (kt : a ≤ b → W p l e R s m args below meth c H locs cells slots Q (F0 m tgt ls rest)) (kf : b < a → W p l e R s m args below meth c H locs cells slots Q (F0 m (pc + 3) ls rest)) : W p l e R s m args below meth c H locs cells slots Q (F0 m pc ls (.int (nI b) :: .int (nI a) :: rest)) := lv_icmp_le F.1 F.2.1 hdg ht (fun h => kt ((nI_leI ha hb).mp h)) (fun h => kf (Nat.lt_of_not_le fun q => h ((nI_leI ha hb).mpr q)))
theorem nv_icmp_lt {a b : Nat} {off : Int} {tgt : Nat} (F : CallFix p m c cc nL s args lw_all own) (hdg : decode cc pc = .ok (.if_icmp .lt off, 3)) (ht : (pc : Int) + off = (tgt : Int)) (ha : a < 2 ^ 31) (hb : b < 2 ^ 31) (kt : a < b → W p l e R s m args below meth c H locs cells slots Q (F0 m tgt ls rest)) (kf : b ≤ a → W p l e R s m args below meth c H locs cells slots Q (F0 m (pc + 3) ls rest)) : W p l e R s m args below meth c H locs cells slots Q (F0 m pc ls (.int (nI b) :: .int (nI a) :: rest)) := lv_icmp_lt F.1 F.2.1 hdg ht (fun h => kt ((nI_ltI ha hb).mp h)) (fun h => kf (Nat.le_of_not_lt fun q => h ((nI_ltI ha hb).mpr q)))
theorem nv_icmp_eq {a b : Nat} {off : Int} {tgt : Nat} (F : CallFix p m c cc nL s args lw_all own) (hdg : decode cc pc = .ok (.if_icmp .eq off, 3)) (ht : (pc : Int) + off = (tgt : Int)) (ha : a < 2 ^ 31) (hb : b < 2 ^ 31) (kt : a = b → W p l e R s m args below meth c H locs cells slots Q (F0 m tgt ls rest)) (kf : a ≠ b → W p l e R s m args below meth c H locs cells slots Q (F0 m (pc + 3) ls rest)) : W p l e R s m args below meth c H locs cells slots Q (F0 m pc ls (.int (nI b) :: .int (nI a) :: rest)) := lv_icmp_eq F.1 F.2.1 hdg ht (fun h => kt ((nI_eq ha hb).mp h)) (fun h => kf (fun q => h ((nI_eq ha hb).mpr q)))
theorem nv_icmp_ne {a b : Nat} {off : Int} {tgt : Nat} (F : CallFix p m c cc nL s args lw_all own) (hdg : decode cc pc = .ok (.if_icmp .ne off, 3)) (ht : (pc : Int) + off = (tgt : Int)) (ha : a < 2 ^ 31) (hb : b < 2 ^ 31) (kt : a ≠ b → W p l e R s m args below meth c H locs cells slots Q (F0 m tgt ls rest)) (kf : a = b → W p l e R s m args below meth c H locs cells slots Q (F0 m (pc + 3) ls rest)) : W p l e R s m args below meth c H locs cells slots Q (F0 m pc ls (.int (nI b) :: .int (nI a) :: rest)) := lv_icmp_ne F.1 F.2.1 hdg ht (fun h => kt (fun q => h ((nI_eq ha hb).mpr q))) (fun h => kf ((nI_eq ha hb).mp h))
theorem nv_if_eq {a : Nat} {off : Int} {tgt : Nat} (F : CallFix p m c cc nL s args lw_all own) (hdg : decode cc pc = .ok (.ifCond .eq off, 3)) (ht : (pc : Int) + off = (tgt : Int)) (ha : a < 2 ^ 31) (kt : a = 0 → W p l e R s m args below meth c H locs cells slots Q (F0 m tgt ls rest)) (kf : a ≠ 0 → W p l e R s m args below meth c H locs cells slots Q (F0 m (pc + 3) ls rest)) : W p l e R s m args below meth c H locs cells slots Q (F0 m pc ls (.int (nI a) :: rest)) := lv_if_eq F.1 F.2.1 hdg ht (fun h => kt ((ar_n0 ha).mp h)) (fun h => kf (fun q => h ((ar_n0 ha).mpr q)))
theorem nv_if_ne {a : Nat} {off : Int} {tgt : Nat} (F : CallFix p m c cc nL s args lw_all own) (hdg : decode cc pc = .ok (.ifCond .ne off, 3)) (ht : (pc : Int) + off = (tgt : Int)) (ha : a < 2 ^ 31) (kt : a ≠ 0 → W p l e R s m args below meth c H locs cells slots Q (F0 m tgt ls rest)) (kf : a = 0 → W p l e R s m args below meth c H locs cells slots Q (F0 m (pc + 3) ls rest)) : W p l e R s m args below meth c H locs cells slots Q (F0 m pc ls (.int (nI a) :: rest)) := lv_if_ne F.1 F.2.1 hdg ht (fun h => kt (fun q => h ((ar_n0 ha).mpr q))) (fun h => kf ((ar_n0 ha).mp h))
theorem nv_if_le {a : Nat} {off : Int} {tgt : Nat} (F : CallFix p m c cc nL s args lw_all own) (hdg : decode cc pc = .ok (.ifCond .le off, 3)) (ht : (pc : Int) + off = (tgt : Int)) (ha : a < 2 ^ 31) (kt : a = 0 → W p l e R s m args below meth c H locs cells slots Q (F0 m tgt ls rest)) (kf : 0 < a → W p l e R s m args below meth c H locs cells slots Q (F0 m (pc + 3) ls rest)) : W p l e R s m args below meth c H locs cells slots Q (F0 m pc ls (.int (nI a) :: rest)) := lv_if_le F.1 F.2.1 hdg ht (fun h => kt (Nat.eq_zero_of_not_pos fun q => nI_nle q ha h)) (fun h => kf (Nat.pos_of_ne_zero fun q => h (by rw [q]; decide)))
theorem nv_ifB_eq {b : Bool} {off : Int} {tgt : Nat} (F : CallFix p m c cc nL s args lw_all own) (hdg : decode cc pc = .ok (.ifCond .eq off, 3)) (ht : (pc : Int) + off = (tgt : Int)) (kt : b = false → W p l e R s m args below meth c H locs cells slots Q (F0 m tgt ls rest)) (kf : b = true → W p l e R s m args below meth c H locs cells slots Q (F0 m (pc + 3) ls rest)) : W p l e R s m args below meth c H locs cells slots Q (F0 m pc ls (.int (nI b.toNat) :: rest)) := lv_if_eq F.1 F.2.1 hdg ht (fun h => kt ((ar_z0 b).mp h)) (fun h => kf (by cases b with | false => exact absurd ((ar_z0 false).mpr rfl) h | true => rfl))
theorem nv_ifB_ne {b : Bool} {off : Int} {tgt : Nat} (F : CallFix p m c cc nL s args lw_all own) (hdg : decode cc pc = .ok (.ifCond .ne off, 3)) (ht : (pc : Int) + off = (tgt : Int)) (kt : b = true → W p l e R s m args below meth c H locs cells slots Q (F0 m tgt ls rest)) (kf : b = false → W p l e R s m args below meth c H locs cells slots Q (F0 m (pc + 3) ls rest)) : W p l e R s m args below meth c H locs cells slots Q (F0 m pc ls (.int (nI b.toNat) :: rest)) := lv_if_ne F.1 F.2.1 hdg ht (fun h => kt (by cases b with | false => exact absurd ((ar_z0 false).mpr rfl) h | true => rfl)) (fun h => kf ((ar_z0 b).mp h))
theorem nv_iinc {i k x : Nat} {lv lv' : List (Nat × Value)} (F : CallFix p m c cc nL s args lw_all own) (hdg : decode cc pc = .ok (.iinc i 1, 3)) (hl : lv_has ls nL lv) (hk : lv[k]? = some (i, .int (nI x))) (hn : i < nL) (hl' : (i, Value.int (nI (x + 1))) :: lv.filter (fun q => !(q.1 == i) && !(q.1 + 1 == i && q.2.category == 2)) = lv') (kk : ∀ ls' : Array Slot, lv_has ls' nL lv' → W p l e R s m args below meth c H locs cells slots Q (F0 m (pc + 3) ls' rest)) : W p l e R s m args below meth c H locs cells slots Q (F0 m pc ls rest) := lv_iinc (v := nI (x + 1)) F.1 F.2.1 hdg hl hk (nI_1 x) hn hl' kk
theorem nv_if_lt {a : Nat} {off : Int} {tgt : Nat} (F : CallFix p m c cc nL s args lw_all own) (hdg : decode cc pc = .ok (.ifCond .lt off, 3)) (ht : (pc : Int) + off = (tgt : Int)) (ha : a < 2 ^ 31) (kf : W p l e R s m args below meth c H locs cells slots Q (F0 m (pc + 3) ls rest)) : W p l e R s m args below meth c H locs cells slots Q (F0 m pc ls (.int (nI a) :: rest)) := lv_if_lt F.1 F.2.1 hdg ht (fun h => absurd h (nI_pos ha)) (fun _ => kf)
theorem nv_if_ge {a : Nat} {off : Int} {tgt : Nat} (F : CallFix p m c cc nL s args lw_all own) (hdg : decode cc pc = .ok (.ifCond .ge off, 3)) (ht : (pc : Int) + off = (tgt : Int)) (ha : a < 2 ^ 31) (kt : W p l e R s m args below meth c H locs cells slots Q (F0 m tgt ls rest)) : W p l e R s m args below meth c H locs cells slots Q (F0 m pc ls (.int (nI a) :: rest)) := lv_if_ge F.1 F.2.1 hdg ht (fun _ => kt) (fun h => absurd (nI_pos' ha) h)
/-- the world at a point of a walk: the classes, the cells, apart and in A, nothing else changed, A holds all that is new -/
def wX (D : va_G) (tys : List (ClassId × FieldType)) (A : Nat → Prop) (s : State) (w : va_W) (H : Heap) (locs : List Loc) : Prop := va_K D vwCl tys s ∧ va_P D vwCl w H ∧ va_D A w ∧ va_S A s.heap H locs ∧ ∀ q, s.heap.size ≤ q → A q
theorem nv_bald (F : CallFix p m c cc nL s args lw_all own) (hX : wX D tys A s w H locs) (q0 t0 : Nat) {cA : ClassId} {n : Nat} {f : Nat → Nat} (ha : w[q0]? = some (a0, .inl (cA, n, .inl (fun j => nI (f j))))) (ht : tys[t0]? = some (cA, .byte)) (hn : n < 2 ^ 31) {k : Nat} (hk : k < n) (hdg : decode cc pc = .ok (.baload, 1)) (kk : W p l e R s m args below meth c H locs cells slots Q (F0 m (pc + 1) ls (.int (nI (f k)) :: rest))) : W p l e R s m args below meth c H locs cells slots Q (F0 m pc ls (.int (nI k) :: .ref a0 :: rest)) := by
  refine va_bald F.1 F.2.1 hX.1 hX.2.1 q0 t0 ha ht (vp_in_nI hk hn) hdg ?_
  rw [nI_clamp (Nat.lt_trans hk hn)]
  exact kk
theorem nv_sald (F : CallFix p m c cc nL s args lw_all own) (hX : wX D tys A s w H locs) (q0 t0 : Nat) {cA : ClassId} {n : Nat} {f : Nat → Nat} (ha : w[q0]? = some (a0, .inl (cA, n, .inl (fun j => nI (f j))))) (ht : tys[t0]? = some (cA, .short)) (hn : n < 2 ^ 31) {k : Nat} (hk : k < n) (hdg : decode cc pc = .ok (.saload, 1)) (kk : W p l e R s m args below meth c H locs cells slots Q (F0 m (pc + 1) ls (.int (nI (f k)) :: rest))) : W p l e R s m args below meth c H locs cells slots Q (F0 m pc ls (.int (nI k) :: .ref a0 :: rest)) := by
  refine va_sald F.1 F.2.1 hX.1 hX.2.1 q0 t0 ha ht (vp_in_nI hk hn) hdg ?_
  rw [nI_clamp (Nat.lt_trans hk hn)]
  exact kk
theorem nv_nald (F : CallFix p m c cc nL s args lw_all own) (hX : wX D tys A s w H locs) (q0 t0 : Nat) {cA : ClassId} {n : Nat} {f : Nat → Nat} (ha : w[q0]? = some (a0, .inl (cA, n, .inl (fun j => nI (f j))))) (ht : tys[t0]? = some (cA, .int)) (hn : n < 2 ^ 31) {k : Nat} (hk : k < n) (hdg : decode cc pc = .ok (.iaload, 1)) (kk : W p l e R s m args below meth c H locs cells slots Q (F0 m (pc + 1) ls (.int (nI (f k)) :: rest))) : W p l e R s m args below meth c H locs cells slots Q (F0 m pc ls (.int (nI k) :: .ref a0 :: rest)) := by
  refine va_iald F.1 F.2.1 hX.1 hX.2.1 q0 t0 ha ht (vp_in_nI hk hn) hdg ?_
  rw [nI_clamp (Nat.lt_trans hk hn)]
  exact kk
theorem nv_zald (F : CallFix p m c cc nL s args lw_all own) (hX : wX D tys A s w H locs) (q0 t0 : Nat) {cA : ClassId} {n : Nat} {f : Nat → Bool} (ha : w[q0]? = some (a0, .inl (cA, n, .inl (fun j => nI (f j).toNat)))) (ht : tys[t0]? = some (cA, .boolean)) (hn : n < 2 ^ 31) {k : Nat} (hk : k < n) (hdg : decode cc pc = .ok (.baload, 1)) (kk : W p l e R s m args below meth c H locs cells slots Q (F0 m (pc + 1) ls (.int (nI (f k).toNat) :: rest))) : W p l e R s m args below meth c H locs cells slots Q (F0 m pc ls (.int (nI k) :: .ref a0 :: rest)) := by
  refine va_zald F.1 F.2.1 hX.1 hX.2.1 q0 t0 ha ht (vp_in_nI hk hn) hdg ?_
  rw [nI_clamp (Nat.lt_trans hk hn)]
  exact kk
theorem nv_iald (F : CallFix p m c cc nL s args lw_all own) (hX : wX D tys A s w H locs) (q0 t0 : Nat) {cA : ClassId} {n : Nat} {f : Nat → Int32} (ha : w[q0]? = some (a0, .inl (cA, n, .inl f))) (ht : tys[t0]? = some (cA, .int)) (hn : n < 2 ^ 31) {k : Nat} (hk : k < n) (hdg : decode cc pc = .ok (.iaload, 1)) (kk : W p l e R s m args below meth c H locs cells slots Q (F0 m (pc + 1) ls (.int (f k) :: rest))) : W p l e R s m args below meth c H locs cells slots Q (F0 m pc ls (.int (nI k) :: .ref a0 :: rest)) := by
  refine va_iald F.1 F.2.1 hX.1 hX.2.1 q0 t0 ha ht (vp_in_nI hk hn) hdg ?_
  rw [nI_clamp (Nat.lt_trans hk hn)]
  exact kk
theorem nv_bast (F : CallFix p m c cc nL s args lw_all own) (hX : wX D tys A s w H locs) (q0 t0 : Nat) {cA : ClassId} {n : Nat} {f : Nat → Nat} (ha : w[q0]? = some (a0, .inl (cA, n, .inl (fun j => nI (f j))))) (ht : tys[t0]? = some (cA, .byte)) (hn : n < 2 ^ 31) {k : Nat} {v : Nat} (hk : k < n) (hv : v < 128) (hdg : decode cc pc = .ok (.bastore, 1)) (kk : ∀ (H1 : Heap) (locs1 : List Loc), wX D tys A s (w.set q0 (a0, .inl (cA, n, .inl (fun j => nI (va_up f k v j))))) H1 locs1 → W p l e R s m args below meth c H1 locs1 cells slots Q (F0 m (pc + 1) ls rest)) : W p l e R s m args below meth c H locs cells slots Q (F0 m pc ls (.int (nI v) :: .int (nI k) :: .ref a0 :: rest)) := by
  refine va_bast F.1 F.2.1 hX.1 hX.2.1 hX.2.2.1 hX.2.2.2.1 q0 t0 ha ht (vp_in_nI hk hn) hdg (fun H1 locs1 hP hD hS => ?_)
  rw [ar_upd (Nat.lt_trans hk hn) ((vp_nar_byte (nI v)).trans (ar_b v hv))] at hP hD
  exact kk H1 locs1 ⟨hX.1, hP, hD, hS, hX.2.2.2.2⟩
theorem nv_sast (F : CallFix p m c cc nL s args lw_all own) (hX : wX D tys A s w H locs) (q0 t0 : Nat) {cA : ClassId} {n : Nat} {f : Nat → Nat} (ha : w[q0]? = some (a0, .inl (cA, n, .inl (fun j => nI (f j))))) (ht : tys[t0]? = some (cA, .short)) (hn : n < 2 ^ 31) {k : Nat} {v : Nat} (hk : k < n) (hv : v < 256) (hdg : decode cc pc = .ok (.sastore, 1)) (kk : ∀ (H1 : Heap) (locs1 : List Loc), wX D tys A s (w.set q0 (a0, .inl (cA, n, .inl (fun j => nI (va_up f k v j))))) H1 locs1 → W p l e R s m args below meth c H1 locs1 cells slots Q (F0 m (pc + 1) ls rest)) : W p l e R s m args below meth c H locs cells slots Q (F0 m pc ls (.int (nI v) :: .int (nI k) :: .ref a0 :: rest)) := by
  refine va_sast F.1 F.2.1 hX.1 hX.2.1 hX.2.2.1 hX.2.2.2.1 q0 t0 ha ht (vp_in_nI hk hn) hdg (fun H1 locs1 hP hD hS => ?_)
  rw [ar_upd (Nat.lt_trans hk hn) ((vp_nar_short (nI v)).trans (ar_s hv))] at hP hD
  exact kk H1 locs1 ⟨hX.1, hP, hD, hS, hX.2.2.2.2⟩
theorem nv_nast (F : CallFix p m c cc nL s args lw_all own) (hX : wX D tys A s w H locs) (q0 t0 : Nat) {cA : ClassId} {n : Nat} {f : Nat → Nat} (ha : w[q0]? = some (a0, .inl (cA, n, .inl (fun j => nI (f j))))) (ht : tys[t0]? = some (cA, .int)) (hn : n < 2 ^ 31) {k : Nat} {v : Nat} (hk : k < n) (hdg : decode cc pc = .ok (.iastore, 1)) (kk : ∀ (H1 : Heap) (locs1 : List Loc), wX D tys A s (w.set q0 (a0, .inl (cA, n, .inl (fun j => nI (va_up f k v j))))) H1 locs1 → W p l e R s m args below meth c H1 locs1 cells slots Q (F0 m (pc + 1) ls rest)) : W p l e R s m args below meth c H locs cells slots Q (F0 m pc ls (.int (nI v) :: .int (nI k) :: .ref a0 :: rest)) := by
  refine va_iast F.1 F.2.1 hX.1 hX.2.1 hX.2.2.1 hX.2.2.2.1 q0 t0 ha ht (vp_in_nI hk hn) hdg (fun H1 locs1 hP hD hS => ?_)
  rw [ar_upd (Nat.lt_trans hk hn) rfl] at hP hD
  exact kk H1 locs1 ⟨hX.1, hP, hD, hS, hX.2.2.2.2⟩
theorem nv_zast (F : CallFix p m c cc nL s args lw_all own) (hX : wX D tys A s w H locs) (q0 t0 : Nat) {cA : ClassId} {n : Nat} {f : Nat → Bool} (ha : w[q0]? = some (a0, .inl (cA, n, .inl (fun j => nI (f j).toNat)))) (ht : tys[t0]? = some (cA, .boolean)) (hn : n < 2 ^ 31) {k : Nat} {v : Bool} (hk : k < n) (hdg : decode cc pc = .ok (.bastore, 1)) (kk : ∀ (H1 : Heap) (locs1 : List Loc), wX D tys A s (w.set q0 (a0, .inl (cA, n, .inl (fun j => nI (va_up f k v j).toNat)))) H1 locs1 → W p l e R s m args below meth c H1 locs1 cells slots Q (F0 m (pc + 1) ls rest)) : W p l e R s m args below meth c H locs cells slots Q (F0 m pc ls (.int (nI v.toNat) :: .int (nI k) :: .ref a0 :: rest)) := by
  refine va_zast F.1 F.2.1 hX.1 hX.2.1 hX.2.2.1 hX.2.2.2.1 q0 t0 ha ht (vp_in_nI hk hn) hdg (fun H1 locs1 hP hD hS => ?_)
  rw [ar_updB (Nat.lt_trans hk hn) (ar_z v)] at hP hD
  exact kk H1 locs1 ⟨hX.1, hP, hD, hS, hX.2.2.2.2⟩
theorem nv_iast (F : CallFix p m c cc nL s args lw_all own) (hX : wX D tys A s w H locs) (q0 t0 : Nat) {cA : ClassId} {n : Nat} {f : Nat → Int32} (ha : w[q0]? = some (a0, .inl (cA, n, .inl f))) (ht : tys[t0]? = some (cA, .int)) (hn : n < 2 ^ 31) {k : Nat} {v : Int32} (hk : k < n) (hdg : decode cc pc = .ok (.iastore, 1)) (kk : ∀ (H1 : Heap) (locs1 : List Loc), wX D tys A s (w.set q0 (a0, .inl (cA, n, .inl (va_up f k v)))) H1 locs1 → W p l e R s m args below meth c H1 locs1 cells slots Q (F0 m (pc + 1) ls rest)) : W p l e R s m args below meth c H locs cells slots Q (F0 m pc ls (.int v :: .int (nI k) :: .ref a0 :: rest)) := by
  refine va_iast F.1 F.2.1 hX.1 hX.2.1 hX.2.2.1 hX.2.2.2.1 q0 t0 ha ht (vp_in_nI hk hn) hdg (fun H1 locs1 hP hD hS => ?_)
  rw [ar_updI (Nat.lt_trans hk hn)] at hP hD
  exact kk H1 locs1 ⟨hX.1, hP, hD, hS, hX.2.2.2.2⟩
end ROWS_R
/-- a world behind a call -/
def cW (D : va_G) (tys : List (ClassId × FieldType)) (A : Nat → Prop) (w : va_W) (t : State) : Prop := va_P D vwCl w t.heap ∧ va_K D vwCl tys t ∧ va_D A w
/-- a world at a method's start -/
def cS (D : va_G) (tys : List (ClassId × FieldType)) (w : va_W) (sz : Nat) (U : State) : Prop := U.heap.size = sz ∧ va_P D vwCl w U.heap ∧ va_K D vwCl tys U ∧ va_D (fun _ => True) w
/-- contracts: an int (or boolean) answer; none -/
def cI (l : Launch) (y : MethodName) (cc : ByteArray) (L : Nat) (ret : Option FieldType) (rm : Room) (D : va_G) (tys : List (ClassId × FieldType)) (w : va_W) (av : List Value) {S : Type} (wf : S → va_W) (post : Int32 → S → Prop) : Prop :=
  ∀ sz : Nat, Met l y (ws_ y cc L ret) rm (va_Pc av (cS D tys w sz)) (va_Qi post (fun u t => cW D tys (va_A w sz) (wf u) t) (va_A w sz)) 0 0 (va_A w sz)
def cV (l : Launch) (y : MethodName) (cc : ByteArray) (L : Nat) (rm : Room) (D : va_G) (tys : List (ClassId × FieldType)) (w : va_W) (av : List Value) {S : Type} (wf : S → va_W) (post : S → Prop) : Prop :=
  ∀ sz : Nat, Met l y (ws_ y cc L none) rm (va_Pc av (cS D tys w sz)) (va_Qv post (fun u t => cW D tys (va_A w sz) (wf u) t) (va_A w sz)) 0 0 (va_A w sz)

set_option maxHeartbeats 4000000 in
theorem c_int {l : Launch} {y : MethodName} {cc : ByteArray} {L : Nat} {rm : Room} {D : va_G} {tys : List (ClassId × FieldType)} {w : va_W} {av : List Value} {S : Type} {wf : S → va_W} {post : Int32 → S → Prop} {own : String} (hy : plainName y.cls = true) (ho : y.cls = own) (hlen : (lg_sl av).length ≤ L)
    (body : ∀ (p : Program) (e : Env) (s : State) (m : MethodId) (below : List Frame) (meth : Method) (c : Code) (A : Nat → Prop) (Q : State → Prop) (ls : Array Slot) (R : Room) (args : Array Value), R = rm → CallFix p m c cc L s args lw_all own →
      (∀ (H : Heap) (locs : List Loc) (r : Int32) (u : S) (pc : Nat) (ls : Array Slot), post r u → wX D tys A s (wf u) H locs → decode cc pc = .ok (.ireturn, 1) → W p l e R s m args below meth c H locs 0 0 Q (F0 m pc ls [.int r])) →
      wX D tys A s w s.heap [] → lv_has ls L (lv_args 0 av) → W p l e R s m args below meth c s.heap [] 0 0 Q (F0 m 0 ls [])) : cI l y cc L (some .int) rm D tys w av wf post := by
  intro sz
  refine Met.ofW (cc := cc) (maxL := L) (ret := (some .int)) hy rfl ?_
  intro p e s m args below meth c s₁ B hml hv
  obtain ⟨rfl, hsz, hP, hK, hD0⟩ := hv
  have hx := B.exec
  have hb := B.bytes
  have hr := B.returns
  have hts := atoms_spec (ws := ws_ y cc L (some .int)) B.pre
  have hts : ∀ w ∈ lw_all, w.before _ s = true := fun w h => hts w (List.mem_cons_of_mem _ h)
  have hown : s.vm.findClass y.cls = some m.cls := findClass_of_methodNamed B.named
  rw [ho] at hown
  have hlocks := B.notSynchronized
  subst hsz
  have hD := hD0.self (sz := s.heap.size)
  have hl := lv_entry av (n := L) hlen
  rw [lg_entry_eq]
  refine body p e s m below meth c (va_A w s.heap.size) _ _ _ _ rfl ⟨hx, hb, hml, hown, hts⟩ ?_ ⟨hK, hP, hD, va_S.rf, fun q h => Or.inr h⟩ hl
  intro H locs r u pc ls hp hX hdg
  exact W.iret (v := r) hx hb hr (fun t ht hW => ⟨⟨r, u, rfl, hp, by rw [ht]; exact hX.2.1, va_K.moved hW.alike hX.1, hX.2.2.1⟩, hX.2.2.2.1.F ht⟩) hX.2.2.2.1.2.2 hdg
set_option maxHeartbeats 4000000 in
theorem c_bool {l : Launch} {y : MethodName} {cc : ByteArray} {L : Nat} {rm : Room} {D : va_G} {tys : List (ClassId × FieldType)} {w : va_W} {av : List Value} {S : Type} {wf : S → va_W} {post : Bool → S → Prop} {own : String} (hy : plainName y.cls = true) (ho : y.cls = own) (hlen : (lg_sl av).length ≤ L)
    (body : ∀ (p : Program) (e : Env) (s : State) (m : MethodId) (below : List Frame) (meth : Method) (c : Code) (A : Nat → Prop) (Q : State → Prop) (ls : Array Slot) (R : Room) (args : Array Value), R = rm → CallFix p m c cc L s args lw_all own →
      (∀ (H : Heap) (locs : List Loc) (z : Bool) (u : S) (pc : Nat) (ls : Array Slot), post z u → wX D tys A s (wf u) H locs → decode cc pc = .ok (.ireturn, 1) → W p l e R s m args below meth c H locs 0 0 Q (F0 m pc ls [.int (nI z.toNat)])) →
      wX D tys A s w s.heap [] → lv_has ls L (lv_args 0 av) → W p l e R s m args below meth c s.heap [] 0 0 Q (F0 m 0 ls [])) : cI l y cc L (some .boolean) rm D tys w av wf (fun r u => ∃ z : Bool, r = nI z.toNat ∧ post z u) := by
  intro sz
  refine Met.ofW (cc := cc) (maxL := L) (ret := (some .boolean)) hy rfl ?_
  intro p e s m args below meth c s₁ B hml hv
  obtain ⟨rfl, hsz, hP, hK, hD0⟩ := hv
  have hx := B.exec
  have hb := B.bytes
  have hr := B.returns
  have hts := atoms_spec (ws := ws_ y cc L (some .boolean)) B.pre
  have hts : ∀ w ∈ lw_all, w.before _ s = true := fun w h => hts w (List.mem_cons_of_mem _ h)
  have hown : s.vm.findClass y.cls = some m.cls := findClass_of_methodNamed B.named
  rw [ho] at hown
  have hlocks := B.notSynchronized
  subst hsz
  have hD := hD0.self (sz := s.heap.size)
  have hl := lv_entry av (n := L) hlen
  rw [lg_entry_eq]
  refine body p e s m below meth c (va_A w s.heap.size) _ _ _ _ rfl ⟨hx, hb, hml, hown, hts⟩ ?_ ⟨hK, hP, hD, va_S.rf, fun q h => Or.inr h⟩ hl
  intro H locs z u pc ls hp hX hdg
  exact W.zret (v := nI z.toNat) hx hb hr (ar_zn z) (fun t ht hW => ⟨⟨nI z.toNat, u, rfl, ⟨z, rfl, hp⟩, by rw [ht]; exact hX.2.1, va_K.moved hW.alike hX.1, hX.2.2.1⟩, hX.2.2.2.1.F ht⟩) hX.2.2.2.1.2.2 hdg
set_option maxHeartbeats 4000000 in
theorem c_void {l : Launch} {y : MethodName} {cc : ByteArray} {L : Nat} {rm : Room} {D : va_G} {tys : List (ClassId × FieldType)} {w : va_W} {av : List Value} {S : Type} {wf : S → va_W} {post : S → Prop} {own : String} (hy : plainName y.cls = true) (ho : y.cls = own) (hlen : (lg_sl av).length ≤ L)
    (body : ∀ (p : Program) (e : Env) (s : State) (m : MethodId) (below : List Frame) (meth : Method) (c : Code) (A : Nat → Prop) (Q : State → Prop) (ls : Array Slot) (R : Room) (args : Array Value), R = rm → CallFix p m c cc L s args lw_all own →
      (∀ (H : Heap) (locs : List Loc) (u : S) (pc : Nat) (ls : Array Slot), post u → wX D tys A s (wf u) H locs → decode cc pc = .ok (.return_, 1) → W p l e R s m args below meth c H locs 0 0 Q (F0 m pc ls [])) →
      wX D tys A s w s.heap [] → lv_has ls L (lv_args 0 av) → W p l e R s m args below meth c s.heap [] 0 0 Q (F0 m 0 ls [])) : cV l y cc L rm D tys w av wf post := by
  intro sz
  refine Met.ofW (cc := cc) (maxL := L) (ret := none) hy rfl ?_
  intro p e s m args below meth c s₁ B hml hv
  obtain ⟨rfl, hsz, hP, hK, hD0⟩ := hv
  have hx := B.exec
  have hb := B.bytes
  have hr := B.returns
  have hts := atoms_spec (ws := ws_ y cc L none) B.pre
  have hts : ∀ w ∈ lw_all, w.before _ s = true := fun w h => hts w (List.mem_cons_of_mem _ h)
  have hown : s.vm.findClass y.cls = some m.cls := findClass_of_methodNamed B.named
  rw [ho] at hown
  have hlocks := B.notSynchronized
  subst hsz
  have hD := hD0.self (sz := s.heap.size)
  have hl := lv_entry av (n := L) hlen
  rw [lg_entry_eq]
  refine body p e s m below meth c (va_A w s.heap.size) _ _ _ _ rfl ⟨hx, hb, hml, hown, hts⟩ ?_ ⟨hK, hP, hD, va_S.rf, fun q h => Or.inr h⟩ hl
  intro H locs u pc ls hp hX hdg
  exact W.vret hx hb hr (fun t ht hW => ⟨⟨u, rfl, hp, by rw [ht]; exact hX.2.1, va_K.moved hW.alike hX.1, hX.2.2.1⟩, hX.2.2.2.1.F ht⟩) hX.2.2.2.1.2.2 hdg
section ROWS_C
variable {p : Program} {l : Launch} {e : Env} {R : Room} {s : State} {m : MethodId} {args : Array Value} {below : List Frame} {meth : Method} {c : Code} {H : Heap} {locs : List Loc} {cells slots : Nat} {Q : State → Prop}
variable {cc : ByteArray} {pc : Nat} {ls : Array Slot} {rest : List Value} {nL : Nat} {own : String} {D : va_G} {tys : List (ClassId × FieldType)} {A : Nat → Prop} {w : va_W} {a0 : Nat}
variable {y : MethodName} {bytes : ByteArray} {maxL index : Nat} {C : String} {ret : Option FieldType} {rm : Room} {As : List Value} {b : Nat} {S : Type} {wf : S → va_W}
/-- the start of a callee that sees the whole world w -/
theorem cS_blind {D : va_G} {tys : List (ClassId × FieldType)} {w : va_W} {sz : Nat} {av : List Value} : FrameBlind (va_Pc av (cS D tys w sz)) := fun a U g mk q => by
  obtain ⟨q0, q1, qP, qK, qD⟩ := q
  exact ⟨q0, q1, qP, va_K.moved (u := U) (U := U.calling g mk a) (Vm.Alike.refl U.vm) qK, qD⟩
theorem cS_start {D : va_G} {tys : List (ClassId × FieldType)} {A : Nat → Prop} {w : va_W} {av : List Value} (hX : wX D tys A s w H locs) : ∀ U : State, U.heap = H → s.WarmedH U.vm → va_Pc av (cS D tys w H.size) av.toArray U := fun U hU hW =>
  ⟨rfl, by rw [hU], by rw [hU]; exact hX.2.1, va_K.moved hW.alike hX.1, hX.2.2.1.weaken (fun _ _ _ _ => trivial)⟩
/-- A and what the callee may change -/
theorem wX_free {D : va_G} {tys : List (ClassId × FieldType)} {A : Nat → Prop} {w : va_W} (hX : wX D tys A s w H locs) : ∀ q, va_A w H.size q → A q := by
  intro q h
  rcases h with ⟨k, e, h⟩ | h
  · exact hX.2.2.1.2 k (q, e) h
  · exact hX.2.2.2.2 q (Nat.le_trans hX.2.2.2.1.1 h)
theorem wX_behind {D : va_G} {tys : List (ClassId × FieldType)} {A : Nat → Prop} {w w1 : va_W} {t : State} {H1 : Heap} {locs1 : List Loc} (hX : wX D tys A s w H locs) (ht : t.heap = H1) (hvm : s.vm.Alike t.vm) (hB : cW D tys (va_A w H.size) w1 t) (hS : va_S A s.heap H1 locs1) : wX D tys A s w1 H1 locs1 := by
  obtain ⟨hP1, hK1, hD1⟩ := hB
  rw [ht] at hP1
  exact ⟨va_K.moved hvm.symm hK1, hP1, hD1.weaken (fun k q _ h => wX_free hX q.1 h), hS, hX.2.2.2.2⟩
set_option maxHeartbeats 1000000 in
theorem c_calli {post : Int32 → S → Prop} (F : CallFix p m c cc nL s args lw_all own) (hM : cI l y bytes maxL ret rm D tys w (.ref b :: As) wf post) (w1 : Cond.methodLink own index y ∈ lw_all) (w2 : Cond.instanceMethod y ∈ lw_all) (w3 : Cond.selects C y y ∈ lw_all) (w4 : Cond.initialized C ∈ lw_all) (w5 : Cond.code y bytes maxL ret ∈ lw_all) {n : Nat} (hn : As.length = n) (hd : y.cls = C ∧ y.cls ≠ "java/lang/invoke/MethodHandle" ∧ y.cls ≠ "java/lang/invoke/VarHandle" ∧ (parseMethodDescriptor y.desc).map (fun d => d.parameters.length) = some n) (hR : rm.frames + 1 ≤ R.frames ∧ 8 + (maxL + 11) + rm.locals ≤ R.locals) (hrc : rm.cells = 0) (hrs : rm.slots = 0) (hX : wX D tys A s w H locs) {ci : Nat} {fs : List Value} {qc : vw_C} (hc : vwCl[ci]? = some qc) (hqc : qc.1 = C) (he : w[0]? = some (b, .inr (ci, fs))) {st0 : List Value} (hst : st0 = As.reverse ++ .ref b :: rest) (hls : ls.size = nL) (hrest : (rest.map fun v => v.category).sum ≤ 8) (hcs : cells ≤ R.cells ∧ slots ≤ R.slots) (hdg : decode cc pc = .ok (.invokevirtual index, 3))
    (kk : ∀ (r : Int32) (u : S) (H1 : Heap) (locs1 : List Loc), post r u → wX D tys A s (wf u) H1 locs1 → W p l e R s m args below meth c H1 locs1 cells slots Q (F0 m (pc + 3) ls (.int r :: rest))) : W p l e R s m args below meth c H locs cells slots Q (F0 m pc ls st0) := by
  have hFc := wX_free hX
  have hrv := va_recv hX.1 hX.2.1 hc he
  rw [hqc] at hrv
  refine va_calli (va_runV (As := As) (rest := rest) F (hM H.size) (cwV n F.2.2.2.2 (lw_V w1 w2 w3 w4 w5) rfl hrc hrs hd hR) ⟨cS_blind, hrv, cS_start hX⟩ rfl hn hls hst (lv_room hrest) hdg hcs) hX.2.2.2.1 (fun q _ h => hFc q h) hFc (fun r u t H1 locs1 ht hvm hw hB hz hk hS => ?_)
  exact kk r u H1 locs1 hw (wX_behind hX ht hvm hB hS)
set_option maxHeartbeats 1000000 in
theorem c_callv {post : S → Prop} (F : CallFix p m c cc nL s args lw_all own) (hM : cV l y bytes maxL rm D tys w (.ref b :: As) wf post) (w1 : Cond.methodLink own index y ∈ lw_all) (w2 : Cond.instanceMethod y ∈ lw_all) (w3 : Cond.selects C y y ∈ lw_all) (w4 : Cond.initialized C ∈ lw_all) (w5 : Cond.code y bytes maxL none ∈ lw_all) {n : Nat} (hn : As.length = n) (hd : y.cls = C ∧ y.cls ≠ "java/lang/invoke/MethodHandle" ∧ y.cls ≠ "java/lang/invoke/VarHandle" ∧ (parseMethodDescriptor y.desc).map (fun d => d.parameters.length) = some n) (hR : rm.frames + 1 ≤ R.frames ∧ 8 + (maxL + 11) + rm.locals ≤ R.locals) (hrc : rm.cells = 0) (hrs : rm.slots = 0) (hX : wX D tys A s w H locs) {ci : Nat} {fs : List Value} {qc : vw_C} (hc : vwCl[ci]? = some qc) (hqc : qc.1 = C) (he : w[0]? = some (b, .inr (ci, fs))) {st0 : List Value} (hst : st0 = As.reverse ++ .ref b :: rest) (hls : ls.size = nL) (hrest : (rest.map fun v => v.category).sum ≤ 8) (hcs : cells ≤ R.cells ∧ slots ≤ R.slots) (hdg : decode cc pc = .ok (.invokevirtual index, 3))
    (kk : ∀ (u : S) (H1 : Heap) (locs1 : List Loc), post u → wX D tys A s (wf u) H1 locs1 → W p l e R s m args below meth c H1 locs1 cells slots Q (F0 m (pc + 3) ls rest)) : W p l e R s m args below meth c H locs cells slots Q (F0 m pc ls st0) := by
  have hFc := wX_free hX
  have hrv := va_recv hX.1 hX.2.1 hc he
  rw [hqc] at hrv
  refine va_callv (va_runV (As := As) (rest := rest) F (hM H.size) (cwV n F.2.2.2.2 (lw_V w1 w2 w3 w4 w5) rfl hrc hrs hd hR) ⟨cS_blind, hrv, cS_start hX⟩ rfl hn hls hst (lv_room hrest) hdg hcs) hX.2.2.2.1 (fun q _ h => hFc q h) hFc (fun u t H1 locs1 ht hvm hw hB hz hk hS => ?_)
  exact kk u H1 locs1 hw (wX_behind hX ht hvm hB hS)
end ROWS_C
end
section
/-! plain: counting, the directory's trie as arithmetic; no program in sight -/
/-- how many of 0 .. n-1 -/
def cN (p : Nat → Bool) : Nat → Nat
  | 0 => 0
  | n + 1 => cN p n + (p n).toNat
theorem cN_le (p : Nat → Bool) (n : Nat) : cN p n ≤ n := by
  induction n with
  | zero => exact Nat.le_refl 0
  | succ n ih =>
    show cN p n + (p n).toNat ≤ n + 1
    have := Bool.toNat_le (p n)
    omega
theorem cN_congr {p q : Nat → Bool} {n : Nat} (h : ∀ i, i < n → p i = q i) : cN p n = cN q n := by
  induction n with
  | zero => rfl
  | succ n ih =>
    show cN p n + (p n).toNat = cN q n + (q n).toNat
    rw [ih (fun i hi => h i (by omega)), h n (by omega)]
theorem cN_mono {p q : Nat → Bool} {n : Nat} (h : ∀ i, i < n → p i = true → q i = true) : cN p n ≤ cN q n := by
  induction n with
  | zero => exact Nat.le_refl 0
  | succ n ih =>
    show cN p n + (p n).toNat ≤ cN q n + (q n).toNat
    have h1 := ih (fun i hi => h i (by omega))
    have h2 : (p n).toNat ≤ (q n).toNat := by
      cases hp : p n with
      | false => exact Nat.zero_le _
      | true => rw [h n (by omega) hp]; exact Nat.le_refl _
    omega
theorem cN_le_of {p : Nat → Bool} {a b : Nat} (h : a ≤ b) : cN p a ≤ cN p b := by
  induction b with
  | zero =>
    have : a = 0 := by omega
    subst this
    exact Nat.le_refl _
  | succ b ih =>
    show cN p a ≤ cN p b + (p b).toNat
    rcases Nat.lt_or_ge a (b + 1) with q | q
    · have := ih (by omega)
      omega
    · have : a = b + 1 := by omega
      subst this
      exact Nat.le_refl _
theorem cN_upT {p : Nat → Bool} {k n : Nat} (hk : k < n) (hp : p k = false) : cN (va_up p k true) n = cN p n + 1 := by
  induction n with
  | zero => omega
  | succ n ih =>
    show cN (va_up p k true) n + (va_up p k true n).toNat = cN p n + (p n).toNat + 1
    rcases Nat.lt_or_ge k n with q | q
    · rw [ih q, va_up_ne p true (by omega)]
      omega
    · have : k = n := by omega
      subst this
      rw [va_up_self, hp, cN_congr (q := p) (fun i hi => va_up_ne p true (by omega))]
      rfl
theorem cN_upF {p : Nat → Bool} {k n : Nat} (hk : k < n) (hp : p k = true) : cN (va_up p k false) n + 1 = cN p n := by
  have h := cN_upT (p := va_up p k false) hk (va_up_self p k false)
  rw [bx_uu] at h
  rw [← h]
  refine cN_congr (fun i _ => ?_)
  by_cases q : i = k
  · subst q
    rw [va_up_self, hp]
  · rw [va_up_ne p true q]
theorem cN_pos {p : Nat → Bool} {k n : Nat} (hk : k < n) (hp : p k = true) : 0 < cN p n := by
  have := cN_upF hk hp
  omega
theorem cN_ex {p : Nat → Bool} {n : Nat} (h : 0 < cN p n) : ∃ k, k < n ∧ p k = true := by
  induction n with
  | zero => exact absurd h (Nat.lt_irrefl 0)
  | succ n ih =>
    cases hp : p n with
    | true => exact ⟨n, by omega, hp⟩
    | false =>
      have h' : 0 < cN p n + (p n).toNat := h
      rw [hp] at h'
      obtain ⟨k, h1, h2⟩ := ih h'
      exact ⟨k, by omega, h2⟩
/-- an injection from the one into the other -/
theorem cN_inj {m : Nat} (f : Nat → Nat) : ∀ (n : Nat) (p q : Nat → Bool), (∀ i, i < n → p i = true → f i < m ∧ q (f i) = true) → (∀ i j, i < n → j < n → p i = true → p j = true → f i = f j → i = j) → cN p n ≤ cN q m := by
  intro n
  induction n with
  | zero => exact fun _ _ _ _ => Nat.zero_le _
  | succ n ih =>
    intro p q h1 h2
    show cN p n + (p n).toNat ≤ cN q m
    cases hp : p n with
    | false =>
      have := ih p q (fun i hi => h1 i (by omega)) (fun i j hi hj => h2 i j (by omega) (by omega))
      simpa using this
    | true =>
      obtain ⟨g1, g2⟩ := h1 n (by omega) hp
      have h3 := ih p (va_up q (f n) false) (fun i hi hpi => ?_) (fun i j hi hj => h2 i j (by omega) (by omega))
      · have := cN_upF g1 g2
        show cN p n + 1 ≤ _
        omega
      · obtain ⟨k1, k2⟩ := h1 i (by omega) hpi
        refine ⟨k1, ?_⟩
        rw [va_up_ne q false (fun e => ?_)]
        · exact k2
        · have := h2 i n (by omega) (by omega) hpi hp e
          omega
theorem cN_bij {n m : Nat} {p q : Nat → Bool} (f g : Nat → Nat) (h1 : ∀ i, i < n → p i = true → f i < m ∧ q (f i) = true) (h2 : ∀ i j, i < n → j < n → p i = true → p j = true → f i = f j → i = j) (h3 : ∀ i, i < m → q i = true → g i < n ∧ p (g i) = true) (h4 : ∀ i j, i < m → j < m → q i = true → q j = true → g i = g j → i = j) : cN p n = cN q m :=
  Nat.le_antisymm (cN_inj f n p q h1 h2) (cN_inj g m q p h3 h4)
theorem cN_const (n : Nat) : cN (fun _ => true) n = n := by
  induction n with
  | zero => rfl
  | succ n ih => show cN (fun _ => true) n + 1 = n + 1; rw [ih]
theorem cN_lt {p : Nat → Bool} {a b : Nat} (hab : a < b) (hp : p a = true) : cN p a < cN p b := by
  have h1 : cN p (a + 1) = cN p a + 1 := by show cN p a + (p a).toNat = _; rw [hp]; rfl
  have h2 := cN_le_of (p := p) (show a + 1 ≤ b by omega)
  omega
/-- strictly increasing on the members -/
theorem cN_memb {p : Nat → Bool} {a b : Nat} (ha : p a = true) (hb : p b = true) (h : cN p a = cN p b) : a = b := by
  rcases Nat.lt_trichotomy a b with q | q | q
  · have := cN_lt q ha; omega
  · exact q
  · have := cN_lt q hb; omega
theorem cN_split (p q : Nat → Bool) (n : Nat) : cN p n = cN (fun i => p i && q i) n + cN (fun i => p i && !q i) n := by
  induction n with
  | zero => rfl
  | succ n ih =>
    show cN p n + (p n).toNat = (cN (fun i => p i && q i) n + (p n && q n).toNat) + (cN (fun i => p i && !q i) n + (p n && !q n).toNat)
    rw [ih]
    cases p n <;> cases q n <;> simp <;> omega
/-! ===== the keys T by their endings ===== -/
/-- how many keys end as k does, in d digits -/
def ct (T : Nat → Bool) (k d : Nat) : Nat := cN (fun j => T j && (j % 2 ^ d == k % 2 ^ d)) 256
/-- the ending of k in d digits is a bucket's -/
def iB (T : Nat → Bool) (k d : Nat) : Bool := decide (ct T k d ≤ 4) && (d == 0 || decide (4 < ct T k (d - 1)))
def oD (T : Nat → Bool) (d : Nat) : Nat := cN (fun e => iB T e d) (2 ^ d)
theorem md_le {a b d d' : Nat} (h : d ≤ d') (e : a % 2 ^ d' = b % 2 ^ d') : a % 2 ^ d = b % 2 ^ d := by
  have hd : 2 ^ d ∣ 2 ^ d' := Nat.pow_dvd_pow 2 h
  rw [← Nat.mod_mod_of_dvd a hd, e, Nat.mod_mod_of_dvd b hd]
theorem md_mm {a d d' : Nat} (h : d ≤ d') : a % 2 ^ d' % 2 ^ d = a % 2 ^ d := Nat.mod_mod_of_dvd a (Nat.pow_dvd_pow 2 h)
theorem ct_anti {T : Nat → Bool} {k d d' : Nat} (h : d ≤ d') : ct T k d' ≤ ct T k d := by
  refine cN_mono (fun i _ hi => ?_)
  simp only [Bool.and_eq_true, beq_iff_eq] at hi ⊢
  exact ⟨hi.1, md_le h hi.2⟩
theorem ct_congr {T : Nat → Bool} {k k' d : Nat} (h : k % 2 ^ d = k' % 2 ^ d) : ct T k d = ct T k' d := by
  unfold ct
  rw [h]
theorem ct_6 (T : Nat → Bool) (k : Nat) : ct T k 6 ≤ 4 := by
  have h : ct T k 6 ≤ cN (fun _ => true) 4 := by
    refine cN_inj (fun j => j / 64) 256 _ _ (fun i hi _ => ⟨?_, rfl⟩) (fun i j hi hj h1 h2 e => ?_)
    · show i / 64 < 4
      omega
    · simp only [Bool.and_eq_true, beq_iff_eq] at h1 h2
      have e1 : i % 64 = k % 64 := h1.2
      have e2 : j % 64 = k % 64 := h2.2
      have e3 : i / 64 = j / 64 := e
      omega
  rw [cN_const] at h
  exact h
theorem iB_one {T : Nat → Bool} {k d d' : Nat} (h : iB T k d = true) (h' : iB T k d' = true) : d = d' := by
  unfold iB at h h'
  simp only [Bool.and_eq_true, Bool.or_eq_true, decide_eq_true_eq, beq_iff_eq] at h h'
  rcases Nat.lt_trichotomy d d' with q | q | q
  · have := ct_anti (T := T) (k := k) (show d ≤ d' - 1 by omega)
    omega
  · exact q
  · have := ct_anti (T := T) (k := k) (show d' ≤ d - 1 by omega)
    omega
theorem iB_congr {T : Nat → Bool} {k k' d : Nat} (h : k % 2 ^ d = k' % 2 ^ d) : iB T k d = iB T k' d := by
  unfold iB
  rw [ct_congr h, ct_congr (T := T) (md_le (show d - 1 ≤ d by omega) h)]
end
section
/-! plain: buckets by endings: β k the bucket of k, us in use, de its depth -/
theorem md_succ {a b d : Nat} : a % 2 ^ (d + 1) = b % 2 ^ (d + 1) ↔ a % 2 ^ d = b % 2 ^ d ∧ a / 2 ^ d % 2 = b / 2 ^ d % 2 := by
  have hp : 0 < 2 ^ d := Nat.pow_pos (by omega)
  rw [Nat.mod_pow_succ, Nat.mod_pow_succ]
  have ha := Nat.mod_lt a hp
  have hb := Nat.mod_lt b hp
  rcases Nat.mod_two_eq_zero_or_one (a / 2 ^ d) with q1 | q1 <;> rcases Nat.mod_two_eq_zero_or_one (b / 2 ^ d) with q2 | q2 <;> rw [q1, q2] <;> omega
def be (dp : Nat) (di : Nat → Nat) (k : Nat) : Nat := di (k % 2 ^ dp)
def sS (dp : Nat) (β : Nat → Nat) (us : Nat → Bool) (de : Nat → Nat) : Prop :=
  (∀ k, us (β k) = true ∧ de (β k) ≤ dp) ∧ (∀ k k', β k = β k' ↔ k % 2 ^ de (β k) = k' % 2 ^ de (β k)) ∧ ∀ b, us b = true → b < 64 ∧ ∃ k, β k = b
theorem sS.lt {dp : Nat} {β : Nat → Nat} {us : Nat → Bool} {de : Nat → Nat} (h : sS dp β us de) (k : Nat) : β k < 64 := (h.2.2 _ (h.1 k).1).1
/-- the ending of d digits, and one digit more -/
theorem md_hi {a d : Nat} : (a % 2 ^ d + 2 ^ d) % 2 ^ d = a % 2 ^ d ∧ (a % 2 ^ d + 2 ^ d) / 2 ^ d % 2 = 1 := by
  have hp : 0 < 2 ^ d := Nat.pow_pos (by omega)
  have ha := Nat.mod_lt a hp
  constructor
  · rw [Nat.add_mod_right, Nat.mod_mod]
  · rw [Nat.add_div_right _ hp, Nat.div_eq_of_lt ha]
theorem md_lo {a d : Nat} : (a % 2 ^ d) % 2 ^ d = a % 2 ^ d ∧ (a % 2 ^ d) / 2 ^ d % 2 = 0 := by
  have hp : 0 < 2 ^ d := Nat.pow_pos (by omega)
  exact ⟨Nat.mod_mod _ _, by rw [Nat.div_eq_of_lt (Nat.mod_lt a hp)]⟩
/-- a full bucket is split: c takes the keys with the digit 1 -/
theorem sS_split {dp : Nat} {β : Nat → Nat} {us : Nat → Bool} {de : Nat → Nat} {e c : Nat} (h : sS dp β us de) (hd : de (β e) < dp) (hc : us c = false) (hc6 : c < 64) :
    sS dp (fun k => if k % 2 ^ de (β e) = e % 2 ^ de (β e) ∧ k / 2 ^ de (β e) % 2 = 1 then c else β k) (va_up us c true) (va_up (va_up de (β e) (de (β e) + 1)) c (de (β e) + 1)) := by
  obtain ⟨h1, h2, h3⟩ := h
  generalize hb : β e = b at hd ⊢
  generalize hdd : de b = d at hd ⊢
  have hin : ∀ k, k % 2 ^ d = e % 2 ^ d ↔ β k = b := by
    intro k
    have := h2 e k
    rw [hb, hdd] at this
    exact ⟨fun q => (this.mpr q.symm).symm, fun q => (this.mp q.symm).symm⟩
  have hcn : ∀ k, β k ≠ c := fun k q => by
    have := (h1 k).1
    rw [q, hc] at this
    cases this
  have hbc : b ≠ c := by rw [← hb]; exact hcn e
  refine ⟨fun k => ?_, fun k k' => ?_, fun b' hb' => ?_⟩
  · by_cases q : k % 2 ^ d = e % 2 ^ d ∧ k / 2 ^ d % 2 = 1
    · simp only [if_pos q]
      rw [va_up_self, va_up_self]
      exact ⟨rfl, hd⟩
    · simp only [if_neg q]
      rw [va_up_ne _ _ (hcn k), va_up_ne _ _ (hcn k)]
      refine ⟨(h1 k).1, ?_⟩
      by_cases q2 : β k = b
      · rw [q2, va_up_self]
        exact hd
      · rw [va_up_ne _ _ q2]
        exact (h1 k).2
  · by_cases q : k % 2 ^ d = e % 2 ^ d ∧ k / 2 ^ d % 2 = 1
    · simp only [if_pos q]
      rw [va_up_self, md_succ, q.1, q.2]
      by_cases q' : k' % 2 ^ d = e % 2 ^ d ∧ k' / 2 ^ d % 2 = 1
      · simp only [if_pos q']
        exact ⟨fun _ => ⟨q'.1.symm, q'.2.symm⟩, fun _ => trivial⟩
      · simp only [if_neg q']
        exact ⟨fun z => absurd z.symm (hcn k'), fun z => absurd ⟨z.1.symm, z.2.symm⟩ q'⟩
    · simp only [if_neg q]
      rw [va_up_ne _ _ (hcn k)]
      by_cases q2 : β k = b
      · rw [q2, va_up_self, md_succ]
        have hk := (hin k).mpr q2
        have hk0 : k / 2 ^ d % 2 = 0 := by
          rcases Nat.mod_two_eq_zero_or_one (k / 2 ^ d) with z | z
          · exact z
          · exact absurd ⟨hk, z⟩ q
        rw [hk, hk0]
        by_cases q' : k' % 2 ^ d = e % 2 ^ d ∧ k' / 2 ^ d % 2 = 1
        · simp only [if_pos q']
          exact ⟨fun z => absurd z hbc, fun z => by have := z.2; omega⟩
        · simp only [if_neg q']
          constructor
          · intro z
            have hk' := (hin k').mpr z.symm
            refine ⟨hk'.symm, ?_⟩
            rcases Nat.mod_two_eq_zero_or_one (k' / 2 ^ d) with y | y
            · exact y.symm
            · exact absurd ⟨hk', y⟩ q'
          · intro z
            exact ((hin k').mp z.1.symm).symm
      · rw [va_up_ne _ _ q2, ← h2 k k']
        by_cases q' : k' % 2 ^ d = e % 2 ^ d ∧ k' / 2 ^ d % 2 = 1
        · simp only [if_pos q']
          refine ⟨fun z => absurd z (hcn k), fun z => ?_⟩
          exact absurd (z.trans ((hin k').mp q'.1)) q2
        · simp only [if_neg q']
  · by_cases q : b' = c
    · subst q
      refine ⟨hc6, e % 2 ^ d + 2 ^ d, ?_⟩
      exact if_pos md_hi
    · rw [va_up_ne _ _ q] at hb'
      obtain ⟨g1, k, g2⟩ := h3 b' hb'
      refine ⟨g1, ?_⟩
      by_cases q2 : b' = b
      · refine ⟨e % 2 ^ d, ?_⟩
        show (if _ then c else β (e % 2 ^ d)) = b'
        rw [if_neg (fun z => by have := z.2; rw [md_lo.2] at this; omega), q2]
        exact (hin _).mp md_lo.1
      · refine ⟨k, ?_⟩
        show (if _ then c else β k) = b'
        rw [if_neg (fun z => q2 (g2.symm.trans ((hin k).mp z.1)))]
        exact g2
/-- the bucket beside: the last of d digits turned -/
theorem md_sib {a s d : Nat} (hs : s % 2 ^ d = a % 2 ^ d) (hn : s % 2 ^ (d + 1) ≠ a % 2 ^ (d + 1)) (k : Nat) : k % 2 ^ d = a % 2 ^ d ↔ (k % 2 ^ (d + 1) = a % 2 ^ (d + 1) ∨ k % 2 ^ (d + 1) = s % 2 ^ (d + 1)) := by
  have hn' : s / 2 ^ d % 2 ≠ a / 2 ^ d % 2 := fun q => hn (md_succ.mpr ⟨hs, q⟩)
  rw [md_succ, md_succ, hs]
  have h1 := Nat.mod_two_eq_zero_or_one (k / 2 ^ d)
  have h2 := Nat.mod_two_eq_zero_or_one (s / 2 ^ d)
  have h3 := Nat.mod_two_eq_zero_or_one (a / 2 ^ d)
  constructor
  · intro q
    rcases Nat.decEq (k / 2 ^ d % 2) (a / 2 ^ d % 2) with z | z
    · exact Or.inr ⟨q, by omega⟩
    · exact Or.inl ⟨q, z⟩
  · rintro (q | q) <;> exact q.1
/-- two buckets side by side are joined -/
theorem sS_join {dp : Nat} {β : Nat → Nat} {us : Nat → Bool} {de : Nat → Nat} {a s d : Nat} (h : sS dp β us de) (hd : de (β a) = d + 1) (hs : s % 2 ^ d = a % 2 ^ d) (hn : s % 2 ^ (d + 1) ≠ a % 2 ^ (d + 1)) (hc : de (β s) = d + 1) :
    sS dp (fun k => if β k = β s then β a else β k) (va_up us (β s) false) (va_up de (β a) d) ∧ β s ≠ β a := by
  obtain ⟨h1, h2, h3⟩ := h
  have hbc : β s ≠ β a := fun q => by
    have := (h2 s a).mp q
    rw [hc] at this
    exact hn this
  refine ⟨?_, hbc⟩
  have hina : ∀ k, k % 2 ^ (d + 1) = a % 2 ^ (d + 1) ↔ β k = β a := by
    intro k
    have := h2 a k
    rw [hd] at this
    exact ⟨fun q => (this.mpr q.symm).symm, fun q => (this.mp q.symm).symm⟩
  have hins : ∀ k, k % 2 ^ (d + 1) = s % 2 ^ (d + 1) ↔ β k = β s := by
    intro k
    have := h2 s k
    rw [hc] at this
    exact ⟨fun q => (this.mpr q.symm).symm, fun q => (this.mp q.symm).symm⟩
  have hin : ∀ k, (if β k = β s then β a else β k) = β a ↔ k % 2 ^ d = a % 2 ^ d := by
    intro k
    rw [md_sib hs hn k, hina, hins]
    by_cases q : β k = β s
    · simp [q]
    · simp [q]
  refine ⟨fun k => ?_, fun k k' => ?_, fun b' hb' => ?_⟩
  · have hne : (if β k = β s then β a else β k) ≠ β s := by
      by_cases q : β k = β s
      · rw [if_pos q]; exact fun z => hbc z.symm
      · rw [if_neg q]; exact q
    refine ⟨?_, ?_⟩
    · show va_up us (β s) false (if β k = β s then β a else β k) = true
      rw [va_up_ne _ _ hne]
      by_cases q : β k = β s
      · rw [if_pos q]; exact (h1 a).1
      · rw [if_neg q]; exact (h1 k).1
    · show va_up de (β a) d (if β k = β s then β a else β k) ≤ dp
      by_cases q : (if β k = β s then β a else β k) = β a
      · rw [q, va_up_self]
        have := (h1 a).2
        omega
      · rw [va_up_ne _ _ q]
        by_cases q2 : β k = β s
        · rw [if_pos q2] at q
          exact absurd rfl q
        · rw [if_neg q2]; exact (h1 k).2
  · show (if β k = β s then β a else β k) = (if β k' = β s then β a else β k') ↔ k % 2 ^ va_up de (β a) d (if β k = β s then β a else β k) = k' % 2 ^ va_up de (β a) d (if β k = β s then β a else β k)
    by_cases q : (if β k = β s then β a else β k) = β a
    · have q1 := (hin k).mp q
      rw [q, va_up_self, q1]
      constructor
      · exact fun z => ((hin k').mp z.symm).symm
      · exact fun z => ((hin k').mpr z.symm).symm
    · have q2 : β k ≠ β s := fun z => q (by rw [if_pos z])
      rw [if_neg q2] at q ⊢
      rw [va_up_ne _ _ q, ← h2 k k']
      by_cases q3 : β k' = β s
      · rw [if_pos q3]
        exact ⟨fun z => absurd z q, fun z => absurd (z.trans q3) q2⟩
      · rw [if_neg q3]
  · have hne : b' ≠ β s := fun z => by rw [z, va_up_self] at hb'; cases hb'
    rw [va_up_ne _ _ hne] at hb'
    obtain ⟨g1, k, g2⟩ := h3 b' hb'
    refine ⟨g1, k, ?_⟩
    show (if β k = β s then β a else β k) = b'
    rw [if_neg (fun z => hne (g2.symm.trans z)), g2]
/-- beside a bucket of d digits lie buckets of d or more -/
theorem sS_deep {dp : Nat} {β : Nat → Nat} {us : Nat → Bool} {de : Nat → Nat} {a s d : Nat} (h : sS dp β us de) (hd : de (β a) = d + 1) (hs : s % 2 ^ d = a % 2 ^ d) (hn : s % 2 ^ (d + 1) ≠ a % 2 ^ (d + 1)) : d + 1 ≤ de (β s) := by
  rcases Nat.lt_or_ge (de (β s)) (d + 1) with q | q
  · have h1 : β s = β a := (h.2.1 s a).mpr (md_le (by omega) hs)
    rw [h1, hd] at q
    omega
  · exact q
/-- a bucket is left while one of them can still be split -/
theorem sS_free {dp : Nat} {β : Nat → Nat} {us : Nat → Bool} {de : Nat → Nat} {e : Nat} (h : sS dp β us de) (h6 : dp ≤ 6) (hd : de (β e) < dp) : ∃ c, c < 64 ∧ us c = false := by
  rcases Classical.em (∃ c, c < 64 ∧ us c = false) with q | q
  · exact q
  exfalso
  have hall : ∀ c, c < 64 → us c = true := fun c hc => by
    cases hu : us c with
    | true => rfl
    | false => exact absurd ⟨c, hc, hu⟩ q
  obtain ⟨h1, h2, h3⟩ := h
  have hch : ∀ b : Nat, ∃ k, b < 64 → β k = b := fun b => by
    rcases Nat.lt_or_ge b 64 with z | z
    · obtain ⟨-, k, hk⟩ := h3 b (hall b z)
      exact ⟨k, fun _ => hk⟩
    · exact ⟨0, fun y => by omega⟩
  obtain ⟨g, hg⟩ := Classical.axiomOfChoice hch
  generalize hdd : de (β e) = d at hd
  have hp : 2 ^ d + 2 ^ d ≤ 2 ^ dp := by
    have := Nat.pow_le_pow_right (n := 2) (by omega) hd
    rw [Nat.pow_succ] at this
    omega
  have hp6 : 2 ^ dp ≤ 2 ^ 6 := Nat.pow_le_pow_right (by omega) h6
  have hlt := Nat.mod_lt e (show 0 < 2 ^ d from Nat.pow_pos (by omega))
  have e2 : β (e % 2 ^ d + 2 ^ d) = β e := by
    refine ((h2 e _).mpr ?_).symm
    rw [hdd]
    exact (md_hi.1).symm
  have e1 : β (e % 2 ^ d) = β e := by
    refine ((h2 e _).mpr ?_).symm
    rw [hdd]
    exact (md_lo.1).symm
  have hmod : ∀ k, β (k % 2 ^ dp) = β k := fun k => ((h2 k _).mpr ((md_mm (h1 k).2).symm)).symm
  have hle : cN (fun _ => true) 64 ≤ cN (va_up (fun _ => true) (e % 2 ^ d + 2 ^ d) false) (2 ^ dp) := by
    refine cN_inj (fun b => if b = β e then e % 2 ^ d else g b % 2 ^ dp) 64 _ _ (fun b hb _ => ?_) (fun i j hi hj _ _ hij => ?_)
    · show (if b = β e then e % 2 ^ d else g b % 2 ^ dp) < 2 ^ dp ∧ va_up (fun _ => true) (e % 2 ^ d + 2 ^ d) false (if b = β e then e % 2 ^ d else g b % 2 ^ dp) = true
      by_cases z : b = β e
      · rw [if_pos z]
        refine ⟨by omega, ?_⟩
        rw [va_up_ne _ _ (by omega)]
      · rw [if_neg z]
        refine ⟨Nat.mod_lt _ (Nat.pow_pos (by omega)), ?_⟩
        rw [va_up_ne _ _ (fun y => ?_)]
        have h5 := hmod (g b)
        rw [y, e2, hg b hb] at h5
        exact z h5.symm
    · have key : ∀ b, b < 64 → β (if b = β e then e % 2 ^ d else g b % 2 ^ dp) = b := by
        intro b hb
        by_cases z : b = β e
        · rw [if_pos z, e1, z]
        · rw [if_neg z, hmod, hg b hb]
      rw [← key i hi, ← key j hj]
      exact congrArg β hij
  rw [cN_const] at hle
  have h7 := cN_upF (p := fun _ => true) (k := e % 2 ^ d + 2 ^ d) (n := 2 ^ dp) (by omega) rfl
  rw [cN_const] at h7
  omega
/-! ===== the directory ===== -/
theorem be_double {dp : Nat} {di di' : Nat → Nat} (h : ∀ j, j < 2 ^ (dp + 1) → di' j = if 2 ^ dp ≤ j then di (j - 2 ^ dp) else di j) (k : Nat) : be (dp + 1) di' k = be dp di k := by
  have hp : 0 < 2 ^ dp := Nat.pow_pos (by omega)
  have hlt := Nat.mod_lt k hp
  have hlt2 := Nat.mod_lt k (show 0 < 2 ^ (dp + 1) from Nat.pow_pos (by omega))
  unfold be
  rw [h _ hlt2, Nat.mod_pow_succ]
  rcases Nat.mod_two_eq_zero_or_one (k / 2 ^ dp) with q | q
  · rw [q, Nat.mul_zero, Nat.add_zero, if_neg (by omega)]
  · rw [q, Nat.mul_one, if_pos (by omega), Nat.add_sub_cancel]
theorem be_halve {p : Nat} {di : Nat → Nat} {us : Nat → Bool} {de : Nat → Nat} (h : sS (p + 1) (be (p + 1) di) us de) (hd : ∀ k, de (be (p + 1) di k) ≤ p) (k : Nat) : be p di k = be (p + 1) di k := by
  have h1 : be p di k = be (p + 1) di (k % 2 ^ p) := by
    unfold be
    rw [Nat.mod_eq_of_lt (a := k % 2 ^ p)]
    have := Nat.mod_lt k (show 0 < 2 ^ p from Nat.pow_pos (by omega))
    rw [Nat.pow_succ]
    omega
  rw [h1]
  exact ((h.2.1 k _).mpr ((md_mm (hd k)).symm)).symm
theorem sS_dp {dp dp' : Nat} {β : Nat → Nat} {us : Nat → Bool} {de : Nat → Nat} (h : sS dp β us de) (hd : ∀ k, de (β k) ≤ dp') : sS dp' β us de := ⟨fun k => ⟨(h.1 k).1, hd k⟩, h.2⟩
end
section
/-! plain: what the buckets hold; loads and counts; the invariant -/
def sC (β : Nat → Nat) (us : Nat → Bool) (lo ke : Nat → Nat) (va : Nat → Int32) (T : Nat → Bool) (V : Nat → Int32) : Prop :=
  (∀ b, us b = true → ∀ i, i < lo b → ke (b * 5 + i) < 256 ∧ T (ke (b * 5 + i)) = true ∧ β (ke (b * 5 + i)) = b ∧ va (b * 5 + i) = V (ke (b * 5 + i))) ∧
  (∀ b, us b = true → ∀ i j, i < lo b → j < lo b → ke (b * 5 + i) = ke (b * 5 + j) → i = j) ∧
  (∀ k, k < 256 → T k = true → ∃ i, i < lo (β k) ∧ ke (β k * 5 + i) = k)
/-- a bucket's load: the keys with its ending -/
theorem lo_ct {dp : Nat} {β : Nat → Nat} {us : Nat → Bool} {de lo ke : Nat → Nat} {va : Nat → Int32} {T : Nat → Bool} {V : Nat → Int32} (h : sS dp β us de) (hC : sC β us lo ke va T V) (k : Nat) : lo (β k) = ct T k (de (β k)) := by
  obtain ⟨c1, c2, c3⟩ := hC
  have hu := (h.1 k).1
  have hch : ∀ j : Nat, ∃ i, (j < 256 → T j = true → β k = β j → i < lo (β k) ∧ ke (β k * 5 + i) = j) := fun j => by
    rcases Classical.em (j < 256 ∧ T j = true ∧ β k = β j) with z | z
    · obtain ⟨i, h1, h2⟩ := c3 j z.1 z.2.1
      rw [← z.2.2] at h1 h2
      exact ⟨i, fun _ _ _ => ⟨h1, h2⟩⟩
    · exact ⟨0, fun y1 y2 y3 => absurd ⟨y1, y2, y3⟩ z⟩
  obtain ⟨g, hg⟩ := Classical.axiomOfChoice hch
  have hmem : ∀ j, (T j && (j % 2 ^ de (β k) == k % 2 ^ de (β k))) = true → T j = true ∧ β k = β j := fun j hj => by
    simp only [Bool.and_eq_true, beq_iff_eq] at hj
    exact ⟨hj.1, (h.2.1 k j).mpr hj.2.symm⟩
  have := cN_bij (n := lo (β k)) (m := 256) (p := fun _ => true) (q := fun j => T j && (j % 2 ^ de (β k) == k % 2 ^ de (β k))) (fun i => ke (β k * 5 + i)) g
    (fun i hi _ => ?_) (fun i j hi hj _ _ e => c2 _ hu i j hi hj e) (fun j hj hp => ?_) (fun i j hi hj hpi hpj e => ?_)
  · rw [cN_const] at this
    exact this
  · obtain ⟨g1, g2, g3, -⟩ := c1 _ hu i hi
    refine ⟨g1, ?_⟩
    show (T (ke (β k * 5 + i)) && (ke (β k * 5 + i) % 2 ^ de (β k) == k % 2 ^ de (β k))) = true
    rw [g2, Bool.true_and, beq_iff_eq]
    exact ((h.2.1 k _).mp g3.symm).symm
  · obtain ⟨y1, y2⟩ := hmem j hp
    exact ⟨(hg j hj y1 y2).1, rfl⟩
  · obtain ⟨y1, y2⟩ := hmem i hpi
    obtain ⟨y3, y4⟩ := hmem j hpj
    have e1 := (hg i hi y1 y2).2
    have e2 := (hg j hj y3 y4).2
    rw [e] at e1
    exact e1.symm.trans e2
/-- no bucket could be joined with the one beside it -/
def sN (β : Nat → Nat) (de : Nat → Nat) (T : Nat → Bool) : Prop := ∀ k, 0 < de (β k) → 4 < ct T k (de (β k) - 1)
theorem sN_iB {dp : Nat} {β : Nat → Nat} {us : Nat → Bool} {de lo ke : Nat → Nat} {va : Nat → Int32} {T : Nat → Bool} {V : Nat → Int32} (h : sS dp β us de) (hC : sC β us lo ke va T V) (hl : ∀ b, us b = true → lo b ≤ 4) (hN : sN β de T) (k : Nat) : iB T k (de (β k)) = true := by
  unfold iB
  have h1 := lo_ct h hC k
  have h2 := hl _ (h.1 k).1
  have h3 := hN k
  simp only [Bool.and_eq_true, Bool.or_eq_true, decide_eq_true_eq, beq_iff_eq]
  omega
/-- as many buckets of depth d as endings -/
theorem oD_us {dp : Nat} {β : Nat → Nat} {us : Nat → Bool} {de : Nat → Nat} {T : Nat → Bool} (h : sS dp β us de) (hB : ∀ k, iB T k (de (β k)) = true) (d : Nat) : oD T d = cN (fun b => us b && (de b == d)) 64 := by
  have hch : ∀ b : Nat, ∃ k, (us b = true → β k = b) := fun b => by
    cases hu : us b with
    | true =>
      obtain ⟨-, k, hk⟩ := h.2.2 b hu
      exact ⟨k, fun _ => hk⟩
    | false => exact ⟨0, fun y => by cases y⟩
  obtain ⟨g, hg⟩ := Classical.axiomOfChoice hch
  have hD : ∀ e, iB T e d = true → de (β e) = d := fun e he => iB_one (hB e) he
  have hk : ∀ b, us b = true → de b = d → β (g b % 2 ^ d) = b := fun b hu hd => by
    have h1 := hg b hu
    refine Eq.trans ((h.2.1 (g b) _).mpr ?_).symm h1
    rw [h1, hd, Nat.mod_mod]
  refine cN_bij (fun e => β e) (fun b => g b % 2 ^ d) (fun e he hp => ?_) (fun i j hi hj hpi hpj e => ?_) (fun b hb hq => ?_) (fun i j hi hj hpi hpj e => ?_)
  · refine ⟨h.lt e, ?_⟩
    show (us (β e) && (de (β e) == d)) = true
    rw [(h.1 e).1, hD e hp]
    simp
  · have h1 := (h.2.1 i j).mp e
    rw [hD i hpi, Nat.mod_eq_of_lt hi, Nat.mod_eq_of_lt hj] at h1
    exact h1
  · simp only [Bool.and_eq_true, beq_iff_eq] at hq
    refine ⟨Nat.mod_lt _ (Nat.pow_pos (by omega)), ?_⟩
    have h1 := hB (g b % 2 ^ d)
    rw [hk b hq.1 hq.2, hq.2] at h1
    exact h1
  · simp only [Bool.and_eq_true, beq_iff_eq] at hpi hpj
    rw [← hk i hpi.1 hpi.2, ← hk j hpj.1 hpj.2]
    exact congrArg β e
/-- the reference's buckets -/
def bkN (T : Nat → Bool) : Nat → Nat
  | 0 => 0
  | d + 1 => bkN T d + oD T d
def bk (T : Nat → Bool) : Nat := bkN T 9
theorem cN_layers (us : Nat → Bool) (de : Nat → Nat) (n : Nat) : ∀ m, (∀ b, b < n → us b = true → de b < m) → ∀ f : Nat → Nat, (∀ d, f (d + 1) = f d + cN (fun b => us b && (de b == d)) n) → f 0 = 0 → f m = cN us n := by
  have key : ∀ m, ∀ f : Nat → Nat, (∀ d, f (d + 1) = f d + cN (fun b => us b && (de b == d)) n) → f 0 = 0 → f m = cN (fun b => us b && decide (de b < m)) n := by
    intro m f hf h0
    induction m with
    | zero =>
      rw [h0, cN_congr (q := fun _ => false) (fun i _ => by simp)]
      clear hf
      induction n with
      | zero => rfl
      | succ n ih => show 0 = cN (fun _ => false) n + 0; rw [← ih]
    | succ m ih =>
      rw [hf, ih, cN_split (fun b => us b && decide (de b < m + 1)) (fun b => decide (de b < m)) n]
      congr 1
      · refine cN_congr (fun i _ => ?_)
        cases us i <;> simp
        omega
      · refine cN_congr (fun i _ => ?_)
        cases us i
        · simp
        · rcases Nat.lt_trichotomy (de i) m with q | q | q
          · have : de i ≠ m := by omega
            simp [this, q]
          · simp [q]
          · have : de i ≠ m := by omega
            have h3 : ¬ de i < m + 1 := by omega
            simp [this, h3]
  intro m hm f hf h0
  rw [key m f hf h0]
  refine cN_congr (fun i hi => ?_)
  cases hu : us i with
  | false => rfl
  | true => simp [hm i hi hu]
theorem bk_us {dp : Nat} {β : Nat → Nat} {us : Nat → Bool} {de : Nat → Nat} {T : Nat → Bool} (h : sS dp β us de) (h6 : dp ≤ 6) (hB : ∀ k, iB T k (de (β k)) = true) : bk T = cN us 64 := by
  refine cN_layers us de 64 9 (fun b hb hu => ?_) (bkN T) (fun d => ?_) rfl
  · obtain ⟨-, k, rfl⟩ := h.2.2 b hu
    have := (h.1 k).2
    omega
  · show bkN T d + oD T d = _
    rw [oD_us h hB d]
/-- the deepest bucket: the class's loop, the reference's loop -/
def mxU (us : Nat → Bool) (de : Nat → Nat) : Nat → Nat
  | 0 => 0
  | b + 1 => if us b = true ∧ mxU us de b < de b then de b else mxU us de b
def mxD (T : Nat → Bool) : Nat → Nat
  | 0 => 0
  | d + 1 => if 0 < oD T d then d else mxD T d
theorem mxU_ge {us : Nat → Bool} {de : Nat → Nat} {n b : Nat} (hb : b < n) (hu : us b = true) : de b ≤ mxU us de n := by
  induction n with
  | zero => omega
  | succ n ih =>
    show de b ≤ if us n = true ∧ mxU us de n < de n then de n else mxU us de n
    rcases Nat.lt_or_ge b n with q | q
    · have := ih q
      split <;> omega
    · have : b = n := by omega
      subst this
      split
      · exact Nat.le_refl _
      · rename_i z
        rcases Nat.lt_or_ge (mxU us de b) (de b) with y | y
        · exact absurd ⟨hu, y⟩ z
        · exact y
theorem mxU_in {us : Nat → Bool} {de : Nat → Nat} {n : Nat} : mxU us de n = 0 ∨ ∃ b, b < n ∧ us b = true ∧ de b = mxU us de n := by
  induction n with
  | zero => exact Or.inl rfl
  | succ n ih =>
    show (if us n = true ∧ mxU us de n < de n then de n else mxU us de n) = 0 ∨ ∃ b, b < n + 1 ∧ us b = true ∧ de b = (if us n = true ∧ mxU us de n < de n then de n else mxU us de n)
    split
    · rename_i z
      exact Or.inr ⟨n, by omega, z.1, rfl⟩
    · rcases ih with y | ⟨b, y1, y2, y3⟩
      · exact Or.inl y
      · exact Or.inr ⟨b, by omega, y2, y3⟩
theorem mxD_ge {T : Nat → Bool} {n d : Nat} (hd : d < n) (ho : 0 < oD T d) : d ≤ mxD T n := by
  induction n with
  | zero => omega
  | succ n ih =>
    show d ≤ if 0 < oD T n then n else mxD T n
    rcases Nat.lt_or_ge d n with q | q
    · have := ih q
      split <;> omega
    · have : d = n := by omega
      subst this
      rw [if_pos ho]
      exact Nat.le_refl _
theorem mxD_in {T : Nat → Bool} {n : Nat} : mxD T n = 0 ∨ (mxD T n < n ∧ 0 < oD T (mxD T n)) := by
  induction n with
  | zero => exact Or.inl rfl
  | succ n ih =>
    show (if 0 < oD T n then n else mxD T n) = 0 ∨ ((if 0 < oD T n then n else mxD T n) < n + 1 ∧ 0 < oD T (if 0 < oD T n then n else mxD T n))
    split
    · rename_i z
      exact Or.inr ⟨by omega, z⟩
    · rcases ih with y | y
      · exact Or.inl y
      · exact Or.inr ⟨by omega, y.2⟩
theorem mx_eq {dp : Nat} {β : Nat → Nat} {us : Nat → Bool} {de : Nat → Nat} {T : Nat → Bool} (h : sS dp β us de) (h6 : dp ≤ 6) (hB : ∀ k, iB T k (de (β k)) = true) : mxU us de 64 = mxD T 9 := by
  apply Nat.le_antisymm
  · rcases mxU_in (us := us) (de := de) (n := 64) with q | ⟨b, q1, q2, q3⟩
    · rw [q]; exact Nat.zero_le _
    · rw [← q3]
      refine mxD_ge ?_ ?_
      · obtain ⟨-, k, rfl⟩ := h.2.2 b q2
        have := (h.1 k).2
        omega
      · rw [oD_us h hB]
        exact cN_pos q1 (by simp [q2])
  · rcases mxD_in (T := T) (n := 9) with q | ⟨q1, q2⟩
    · rw [q]; exact Nat.zero_le _
    · rw [oD_us h hB] at q2
      obtain ⟨b, y1, y2⟩ := cN_ex q2
      simp only [Bool.and_eq_true, beq_iff_eq] at y2
      rw [← y2.2]
      exact mxU_ge y1 y2.1
end
section
/-! plain: a key put into its bucket, a key taken out -/
theorem ps_ne {t b j i : Nat} (hj : j < 5) (hi : i < 5) (h : t ≠ b) : t * 5 + j ≠ b * 5 + i := by omega
theorem ps_ne2 {b j i : Nat} (h : j ≠ i) : b * 5 + j ≠ b * 5 + i := by omega
theorem sC_app {dp : Nat} {β : Nat → Nat} {us : Nat → Bool} {de lo ke : Nat → Nat} {va : Nat → Int32} {T : Nat → Bool} {V : Nat → Int32} {k : Nat} {v : Int32} (hS : sS dp β us de) (hC : sC β us lo ke va T V) (hL : ∀ b, us b = true → lo b ≤ 4) (hk : k < 256) (hT : T k = false) :
    sC β us (va_up lo (β k) (lo (β k) + 1)) (va_up ke (β k * 5 + lo (β k)) k) (va_up va (β k * 5 + lo (β k)) v) (va_up T k true) (va_up V k v) := by
  obtain ⟨c1, c2, c3⟩ := hC
  have hb := hL _ (hS.1 k).1
  generalize hbe : β k = b at hb ⊢
  have old : ∀ t, us t = true → ∀ j, j < lo t → va_up ke (b * 5 + lo b) k (t * 5 + j) = ke (t * 5 + j) ∧ va_up va (b * 5 + lo b) v (t * 5 + j) = va (t * 5 + j) ∧ ke (t * 5 + j) ≠ k := by
    intro t ht j hj
    have h5 := hL t ht
    have hne : t * 5 + j ≠ b * 5 + lo b := by
      by_cases q : t = b
      · subst q; omega
      · exact ps_ne (by omega) (by omega) q
    refine ⟨va_up_ne _ _ hne, va_up_ne _ _ hne, fun q => ?_⟩
    have := (c1 t ht j hj).2.1
    rw [q, hT] at this
    cases this
  have hub : us b = true := by rw [← hbe]; exact (hS.1 k).1
  have cs : ∀ t j, j < va_up lo b (lo b + 1) t → j < lo t ∨ (t = b ∧ j = lo b) := by
    intro t j hj
    by_cases q : t = b
    · subst q
      rw [va_up_self] at hj
      omega
    · rw [va_up_ne _ _ q] at hj
      exact Or.inl hj
  refine ⟨fun t ht j hj => ?_, fun t ht i j hi hj e => ?_, fun k' hk' hT' => ?_⟩
  · rcases cs t j hj with q | ⟨q1, q2⟩
    · obtain ⟨o1, o2, o3⟩ := old t ht j q
      obtain ⟨g1, g2, g3, g4⟩ := c1 t ht j q
      rw [o1, o2, va_up_ne _ _ o3, va_up_ne _ _ o3]
      exact ⟨g1, g2, g3, g4⟩
    · rw [q1, q2, va_up_self, va_up_self, va_up_self, va_up_self]
      exact ⟨hk, rfl, hbe, rfl⟩
  · rcases cs t i hi with q | ⟨q1, q2⟩
    · obtain ⟨o1, o2, o3⟩ := old t ht i q
      rcases cs t j hj with p | ⟨p1, p2⟩
      · obtain ⟨n1, n2, n3⟩ := old t ht j p
        rw [o1, n1] at e
        exact c2 t ht i j q p e
      · rw [o1, p1, p2, va_up_self] at e
        rw [p1] at o3
        exact absurd e o3
    · rcases cs t j hj with p | ⟨p1, p2⟩
      · obtain ⟨n1, n2, n3⟩ := old t ht j p
        rw [n1, q1, q2, va_up_self] at e
        rw [q1] at n3
        exact absurd e.symm n3
      · omega
  · by_cases q : k' = k
    · subst q
      rw [hbe]
      exact ⟨lo b, by rw [va_up_self]; omega, va_up_self _ _ _⟩
    · rw [va_up_ne _ _ q] at hT'
      obtain ⟨i, h1, h2⟩ := c3 k' hk' hT'
      obtain ⟨o1, o2, o3⟩ := old _ (hS.1 k').1 i h1
      refine ⟨i, ?_, o1.trans h2⟩
      by_cases q2 : β k' = b
      · rw [q2] at h1 ⊢
        rw [va_up_self]
        omega
      · rw [va_up_ne _ _ q2]
        exact h1
theorem ct_upT {T : Nat → Bool} {k k' d : Nat} : ct T k' d ≤ ct (va_up T k true) k' d := by
  refine cN_mono (fun i _ hi => ?_)
  simp only [Bool.and_eq_true, beq_iff_eq] at hi ⊢
  refine ⟨?_, hi.2⟩
  by_cases q : i = k
  · rw [q, va_up_self]
  · rw [va_up_ne _ _ q]; exact hi.1
theorem ct_upF {T : Nat → Bool} {k k' d : Nat} (h : k' % 2 ^ d ≠ k % 2 ^ d) : ct (va_up T k false) k' d = ct T k' d := by
  refine cN_congr (fun i _ => ?_)
  by_cases q : i = k
  · subst q
    have h2 : (i % 2 ^ d == k' % 2 ^ d) = false := beq_eq_false_iff_ne.mpr (fun z => h z.symm)
    show (va_up T i false i && (i % 2 ^ d == k' % 2 ^ d)) = (T i && (i % 2 ^ d == k' % 2 ^ d))
    rw [h2, Bool.and_false, Bool.and_false]
  · rw [va_up_ne _ _ q]
theorem sC_del {dp : Nat} {β : Nat → Nat} {us : Nat → Bool} {de lo ke : Nat → Nat} {va : Nat → Int32} {T : Nat → Bool} {V : Nat → Int32} {k p : Nat} (hS : sS dp β us de) (hC : sC β us lo ke va T V) (hL : ∀ b, us b = true → lo b ≤ 5) (hp : p < lo (β k)) (hpk : ke (β k * 5 + p) = k) :
    sC β us (va_up lo (β k) (lo (β k) - 1)) (va_up ke (β k * 5 + p) (ke (β k * 5 + (lo (β k) - 1)))) (va_up va (β k * 5 + p) (va (β k * 5 + (lo (β k) - 1)))) (va_up T k false) V := by
  obtain ⟨c1, c2, c3⟩ := hC
  have hub := (hS.1 k).1
  have hb := hL _ hub
  generalize hbe : β k = b at hb hub hp hpk ⊢
  -- where an entry of the new bucket stood before
  have src : ∀ t, us t = true → ∀ j, j < va_up lo b (lo b - 1) t → ∃ j0, j0 < lo t ∧ va_up ke (b * 5 + p) (ke (b * 5 + (lo b - 1))) (t * 5 + j) = ke (t * 5 + j0) ∧ va_up va (b * 5 + p) (va (b * 5 + (lo b - 1))) (t * 5 + j) = va (t * 5 + j0) ∧ ke (t * 5 + j0) ≠ k ∧ ((t = b ∧ j = p ∧ j0 = lo b - 1) ∨ (¬ (t = b ∧ j = p) ∧ j0 = j)) := by
    intro t ht j hj
    by_cases q : t = b
    · subst q
      rw [va_up_self] at hj
      by_cases q2 : j = p
      · subst q2
        refine ⟨lo t - 1, by omega, va_up_self _ _ _, va_up_self _ _ _, fun z => ?_, Or.inl ⟨rfl, rfl, rfl⟩⟩
        have := c2 t ht (lo t - 1) j (by omega) (by omega) (z.trans hpk.symm)
        omega
      · refine ⟨j, by omega, va_up_ne _ _ (ps_ne2 q2), va_up_ne _ _ (ps_ne2 q2), fun z => ?_, Or.inr ⟨fun z => q2 z.2, rfl⟩⟩
        exact q2 (c2 t ht j p (by omega) hp (z.trans hpk.symm))
    · rw [va_up_ne _ _ q] at hj
      have h5 := hL t ht
      have hne := ps_ne (t := t) (b := b) (j := j) (i := p) (by omega) (by omega) q
      refine ⟨j, hj, va_up_ne _ _ hne, va_up_ne _ _ hne, fun z => ?_, Or.inr ⟨fun z => q z.1, rfl⟩⟩
      have := (c1 t ht j hj).2.2.1
      rw [z, hbe] at this
      exact q this.symm
  refine ⟨fun t ht j hj => ?_, fun t ht i j hi hj e => ?_, fun k' hk' hT' => ?_⟩
  · obtain ⟨j0, h1, h2, h3, h4, -⟩ := src t ht j hj
    rw [h2, h3, va_up_ne _ _ h4]
    exact c1 t ht j0 h1
  · obtain ⟨i0, h1, h2, h3, h4, h5⟩ := src t ht i hi
    obtain ⟨j0, g1, g2, g3, g4, g5⟩ := src t ht j hj
    rw [h2, g2] at e
    have e2 := c2 t ht i0 j0 h1 g1 e
    rcases h5 with ⟨q1, q2, q3⟩ | ⟨q1, q2⟩ <;> rcases g5 with ⟨p1, p2, p3⟩ | ⟨p1, p2⟩
    · omega
    · subst q1
      rw [va_up_self] at hj
      omega
    · subst p1
      rw [va_up_self] at hi
      omega
    · omega
  · have q : k' ≠ k := fun z => by rw [z, va_up_self] at hT'; cases hT'
    rw [va_up_ne _ _ q] at hT'
    obtain ⟨i, h1, h2⟩ := c3 k' hk' hT'
    by_cases q2 : β k' = b
    · rw [q2] at h1 h2 ⊢
      have hip : i ≠ p := fun z => q (by rw [← h2, z, hpk])
      by_cases q3 : i = lo b - 1
      · refine ⟨p, by rw [va_up_self]; omega, ?_⟩
        rw [va_up_self, ← q3]
        exact h2
      · refine ⟨i, by rw [va_up_self]; omega, ?_⟩
        rw [va_up_ne _ _ (ps_ne2 hip)]
        exact h2
    · have h5 := hL _ (hS.1 k').1
      refine ⟨i, by rw [va_up_ne _ _ q2]; exact h1, ?_⟩
      rw [va_up_ne _ _ (ps_ne (by omega) (by omega) q2)]
      exact h2
end
section
/-! plain: the keys of a split bucket -/
abbrev SD0 : Type := Nat × Nat × Nat × (Nat → Nat) × (Nat → Bool) × (Nat → Nat) × (Nat → Nat) × (Nat → Nat) × (Nat → Int32)
def rI (b c d : Nat) (ke : Nat → Nat) (va : Nat → Int32) (lo : Nat → Nat) (i : Nat) (lo' ke' : Nat → Nat) (va' : Nat → Int32) : Prop :=
  lo' b + lo' c = i ∧
  (∀ t, t ≠ b → t ≠ c → lo' t = lo t) ∧
  (∀ t, t ≠ b → t ≠ c → ∀ j, j < 5 → ke' (t * 5 + j) = ke (t * 5 + j) ∧ va' (t * 5 + j) = va (t * 5 + j)) ∧
  (∀ j, i ≤ j → j < 5 → ke' (b * 5 + j) = ke (b * 5 + j) ∧ va' (b * 5 + j) = va (b * 5 + j)) ∧
  (∀ t, (t = b ∨ t = c) → ∀ j, j < lo' t → ∃ i0, i0 < i ∧ ke' (t * 5 + j) = ke (b * 5 + i0) ∧ va' (t * 5 + j) = va (b * 5 + i0) ∧ (t = c ↔ ke (b * 5 + i0) / 2 ^ d % 2 = 1)) ∧
  (∀ i0, i0 < i → ∃ t, (t = b ∨ t = c) ∧ ∃ j, j < lo' t ∧ ke' (t * 5 + j) = ke (b * 5 + i0)) ∧
  (∀ t, (t = b ∨ t = c) → ∀ j1 j2, j1 < lo' t → j2 < lo' t → ke' (t * 5 + j1) = ke' (t * 5 + j2) → j1 = j2)
theorem rI_0 {b c d : Nat} {ke : Nat → Nat} {va : Nat → Int32} {lo : Nat → Nat} (hbc : b ≠ c) : rI b c d ke va lo 0 (va_up (va_up lo c 0) b 0) ke va := by
  have e1 : va_up (va_up lo c 0) b 0 b = 0 := va_up_self _ _ _
  have e2 : va_up (va_up lo c 0) b 0 c = 0 := by rw [va_up_ne _ _ (fun q => hbc q.symm), va_up_self]
  refine ⟨by rw [e1, e2], fun t h1 h2 => by rw [va_up_ne _ _ h1, va_up_ne _ _ h2], fun _ _ _ _ _ => ⟨rfl, rfl⟩, fun _ _ _ => ⟨rfl, rfl⟩, fun t ht j hj => ?_, fun i0 h => by omega, fun t ht j1 j2 hj => ?_⟩
  · rcases ht with rfl | rfl
    · rw [e1] at hj; omega
    · rw [e2] at hj; omega
  · rcases ht with rfl | rfl
    · rw [e1] at hj; omega
    · rw [e2] at hj; omega
theorem rI_step {b c d : Nat} {ke : Nat → Nat} {va : Nat → Int32} {lo : Nat → Nat} {i n t0 : Nat} {lo' ke' : Nat → Nat} {va' : Nat → Int32} (h : rI b c d ke va lo i lo' ke' va') (hbc : b ≠ c) (hi : i < n) (hn : n ≤ 5) (hdis : ∀ i1 i2, i1 < n → i2 < n → ke (b * 5 + i1) = ke (b * 5 + i2) → i1 = i2) (ht0 : t0 = b ∨ t0 = c) (hbit : t0 = c ↔ ke (b * 5 + i) / 2 ^ d % 2 = 1) :
    rI b c d ke va lo (i + 1) (va_up lo' t0 (lo' t0 + 1)) (va_up ke' (t0 * 5 + lo' t0) (ke (b * 5 + i))) (va_up va' (t0 * 5 + lo' t0) (va (b * 5 + i))) := by
  obtain ⟨r1, r2, r3, r4, r5, r6, r7⟩ := h
  have hcb : c ≠ b := fun q => hbc q.symm
  have hl0 : lo' t0 ≤ i := by rcases ht0 with rfl | rfl <;> omega
  have hlt : ∀ t, (t = b ∨ t = c) → lo' t ≤ i := fun t ht => by rcases ht with rfl | rfl <;> omega
  have cs : ∀ t j, j < va_up lo' t0 (lo' t0 + 1) t → j < lo' t ∨ (t = t0 ∧ j = lo' t0) := by
    intro t j hj
    by_cases q : t = t0
    · subst q
      rw [va_up_self] at hj
      omega
    · rw [va_up_ne _ _ q] at hj
      exact Or.inl hj
  have old : ∀ t, (t = b ∨ t = c) → ∀ j, j < lo' t → t * 5 + j ≠ t0 * 5 + lo' t0 := by
    intro t ht j hj
    have := hlt t ht
    by_cases q : t = t0
    · subst q; omega
    · exact ps_ne (by omega) (by omega) q
  refine ⟨?_, fun t h1 h2 => ?_, fun t h1 h2 j hj => ?_, fun j h1 h2 => ?_, fun t ht j hj => ?_, fun i0 hi0 => ?_, fun t ht j1 j2 h1 h2 e => ?_⟩
  · rcases ht0 with rfl | rfl
    · rw [va_up_self, va_up_ne _ _ hcb]; omega
    · rw [va_up_self, va_up_ne _ _ hbc]; omega
  · rw [va_up_ne _ _ (by rcases ht0 with rfl | rfl <;> assumption)]
    exact r2 t h1 h2
  · have hne := ps_ne (t := t) (b := t0) (j := j) (i := lo' t0) hj (by omega) (by rcases ht0 with rfl | rfl <;> assumption)
    rw [va_up_ne _ _ hne, va_up_ne _ _ hne]
    exact r3 t h1 h2 j hj
  · have hne : b * 5 + j ≠ t0 * 5 + lo' t0 := by
      by_cases q : b = t0
      · subst q; omega
      · exact ps_ne h2 (by omega) q
    rw [va_up_ne _ _ hne, va_up_ne _ _ hne]
    exact r4 j (by omega) h2
  · rcases cs t j hj with q | ⟨q1, q2⟩
    · obtain ⟨i0, g1, g2, g3, g4⟩ := r5 t ht j q
      have hne := old t ht j q
      rw [va_up_ne _ _ hne, va_up_ne _ _ hne]
      exact ⟨i0, by omega, g2, g3, g4⟩
    · subst q1; subst q2
      rw [va_up_self, va_up_self]
      exact ⟨i, by omega, rfl, rfl, hbit⟩
  · rcases Nat.lt_or_ge i0 i with q | q
    · obtain ⟨t, ht, j, g1, g2⟩ := r6 i0 q
      refine ⟨t, ht, j, ?_, ?_⟩
      · by_cases q2 : t = t0
        · subst q2; rw [va_up_self]; omega
        · rw [va_up_ne _ _ q2]; exact g1
      · rw [va_up_ne _ _ (old t ht j g1)]; exact g2
    · have e : i0 = i := by omega
      subst e
      exact ⟨t0, ht0, lo' t0, by rw [va_up_self]; omega, va_up_self _ _ _⟩
  · have key : ∀ j, j < lo' t → ke' (t * 5 + j) ≠ ke (b * 5 + i) := by
      intro j hj z
      obtain ⟨i0, g1, g2, -, -⟩ := r5 t ht j hj
      have := hdis i0 i (by omega) hi (g2.symm.trans z)
      omega
    rcases cs t j1 h1 with q | ⟨q1, q2⟩ <;> rcases cs t j2 h2 with p | ⟨p1, p2⟩
    · rw [va_up_ne _ _ (old t ht j1 q), va_up_ne _ _ (old t ht j2 p)] at e
      exact r7 t ht j1 j2 q p e
    · rw [va_up_ne _ _ (old t ht j1 q), p1, p2, va_up_self] at e
      rw [← p1] at e
      exact absurd e (key j1 q)
    · rw [va_up_ne _ _ (old t ht j2 p), q1, q2, va_up_self] at e
      rw [← q1] at e
      exact absurd e.symm (key j2 p)
    · omega
theorem rI_end {dp : Nat} {β : Nat → Nat} {us : Nat → Bool} {de lo ke : Nat → Nat} {va : Nat → Int32} {T : Nat → Bool} {V : Nat → Int32} {e c : Nat} {lo' ke' : Nat → Nat} {va' : Nat → Int32} (hS : sS dp β us de) (hC : sC β us lo ke va T V) (hL : ∀ b, us b = true → lo b ≤ 5) (hc : us c = false) (h : rI (β e) c (de (β e)) ke va lo (lo (β e)) lo' ke' va') :
    sC (fun k => if k % 2 ^ de (β e) = e % 2 ^ de (β e) ∧ k / 2 ^ de (β e) % 2 = 1 then c else β k) (va_up us c true) lo' ke' va' T V := by
  obtain ⟨c1, c2, c3⟩ := hC
  obtain ⟨h1, h2, h3⟩ := hS
  generalize hb : β e = b at h ⊢
  generalize hdd : de b = d at h ⊢
  obtain ⟨r1, r2, r3, r4, r5, r6, r7⟩ := h
  have hub : us b = true := by rw [← hb]; exact (h1 e).1
  have hin : ∀ k, k % 2 ^ d = e % 2 ^ d ↔ β k = b := by
    intro k
    have := h2 e k
    rw [hb, hdd] at this
    exact ⟨fun q => (this.mpr q.symm).symm, fun q => (this.mp q.symm).symm⟩
  have hcn : ∀ k, β k ≠ c := fun k q => by
    have := (h1 k).1
    rw [q, hc] at this
    cases this
  have hbc : b ≠ c := by rw [← hb]; exact hcn e
  -- the new bucket of a key that stood in b
  have nb : ∀ i0, i0 < lo b → ∀ t, (t = b ∨ t = c) → (t = c ↔ ke (b * 5 + i0) / 2 ^ d % 2 = 1) → (if ke (b * 5 + i0) % 2 ^ d = e % 2 ^ d ∧ ke (b * 5 + i0) / 2 ^ d % 2 = 1 then c else β (ke (b * 5 + i0))) = t := by
    intro i0 hi0 t ht hbit
    have g := (c1 b hub i0 hi0).2.2.1
    by_cases q : t = c
    · rw [if_pos ⟨(hin _).mpr g, hbit.mp q⟩]; exact q.symm
    · rw [if_neg (fun z => q (hbit.mpr z.2)), g]
      rcases ht with z | z
      · exact z.symm
      · exact absurd z q
  have cs : ∀ t, va_up us c true t = true → (t = b ∨ t = c) ∨ (t ≠ b ∧ t ≠ c ∧ us t = true) := by
    intro t ht
    by_cases q : t = c
    · exact Or.inl (Or.inr q)
    · rw [va_up_ne _ _ q] at ht
      by_cases q2 : t = b
      · exact Or.inl (Or.inl q2)
      · exact Or.inr ⟨q2, q, ht⟩
  refine ⟨fun t ht j hj => ?_, fun t ht i j hi hj ee => ?_, fun k hk hT => ?_⟩
  · rcases cs t ht with q | ⟨q1, q2, q3⟩
    · obtain ⟨i0, g1, g2, g3, g4⟩ := r5 t q j hj
      obtain ⟨k1, k2, k3, k4⟩ := c1 b hub i0 g1
      rw [g2, g3]
      exact ⟨k1, k2, nb i0 g1 t q g4, k4⟩
    · rw [r2 t q1 q2] at hj
      have h5 := hL t q3
      obtain ⟨g1, g2⟩ := r3 t q1 q2 j (by omega)
      obtain ⟨k1, k2, k3, k4⟩ := c1 t q3 j hj
      rw [g1, g2]
      refine ⟨k1, k2, ?_, k4⟩
      show (if _ then c else β (ke (t * 5 + j))) = t
      rw [if_neg (fun z => q1 (k3.symm.trans ((hin _).mp z.1)))]
      exact k3
  · rcases cs t ht with q | ⟨q1, q2, q3⟩
    · exact r7 t q i j hi hj ee
    · rw [r2 t q1 q2] at hi hj
      have h5 := hL t q3
      rw [(r3 t q1 q2 i (by omega)).1, (r3 t q1 q2 j (by omega)).1] at ee
      exact c2 t q3 i j hi hj ee
  · obtain ⟨i0, g1, g2⟩ := c3 k hk hT
    by_cases q : β k = b
    · rw [q] at g1 g2
      obtain ⟨t, ht, j, p1, p2⟩ := r6 i0 g1
      obtain ⟨i1, y1, y2, y3, y4⟩ := r5 t ht j p1
      have e1 : ke (b * 5 + i1) = k := by rw [← y2, p2, g2]
      have := nb i1 y1 t ht y4
      rw [e1] at this
      refine ⟨j, ?_, ?_⟩
      · show j < lo' (if _ then c else β k)
        rw [this]
        exact p1
      · show ke' ((if _ then c else β k) * 5 + j) = k
        rw [this, p2, g2]
    · have hne : (if k % 2 ^ d = e % 2 ^ d ∧ k / 2 ^ d % 2 = 1 then c else β k) = β k := if_neg (fun z => q ((hin _).mp z.1))
      have h5 := hL _ (h1 k).1
      refine ⟨i0, ?_, ?_⟩
      · show i0 < lo' (if _ then c else β k)
        rw [hne, r2 _ q (hcn k)]
        exact g1
      · show ke' ((if _ then c else β k) * 5 + i0) = k
        rw [hne, (r3 _ q (hcn k) i0 (by omega)).1]
        exact g2
/-- while a key is put in: only its own bucket may hold five -/
def sJ (x : SD0) (T : Nat → Bool) (V : Nat → Int32) (k : Nat) : Prop := match x with
  | (dp, bc, kc, di, us, de, lo, ke, va) => dp ≤ 6 ∧ sS dp (be dp di) us de ∧ sC (be dp di) us lo ke va T V ∧ (∀ b, us b = true → b ≠ be dp di k → lo b ≤ 4) ∧ lo (be dp di k) ≤ 5 ∧ sN (be dp di) de T ∧ bc = cN us 64 ∧ kc = cN T 256 ∧ k < 256 ∧ T k = true
/-- the invariant at rest -/
def sI (x : SD0) (T : Nat → Bool) (V : Nat → Int32) : Prop := match x with
  | (dp, bc, kc, di, us, de, lo, ke, va) => dp ≤ 6 ∧ sS dp (be dp di) us de ∧ sC (be dp di) us lo ke va T V ∧ (∀ b, us b = true → lo b ≤ 4) ∧ sN (be dp di) de T ∧ bc = cN us 64 ∧ kc = cN T 256
theorem sJ_start {dp bc kc : Nat} {di : Nat → Nat} {us : Nat → Bool} {de lo ke : Nat → Nat} {va : Nat → Int32} {T : Nat → Bool} {V : Nat → Int32} {k : Nat} {v : Int32} (h : sI (dp, bc, kc, di, us, de, lo, ke, va) T V) (hk : k < 256) (hT : T k = false) :
    sJ (dp, bc, kc + 1, di, us, de, va_up lo (be dp di k) (lo (be dp di k) + 1), va_up ke (be dp di k * 5 + lo (be dp di k)) k, va_up va (be dp di k * 5 + lo (be dp di k)) v) (va_up T k true) (va_up V k v) k := by
  obtain ⟨h6, hS, hC, hL, hN, hb, hkc⟩ := h
  refine ⟨h6, hS, sC_app hS hC hL hk hT, fun b hu hne => ?_, ?_, fun k' h0 => ?_, hb, ?_, hk, va_up_self _ _ _⟩
  · rw [va_up_ne _ _ hne]; exact hL b hu
  · rw [va_up_self]
    have := hL _ (hS.1 k).1
    omega
  · exact Nat.lt_of_lt_of_le (hN k' h0) ct_upT
  · rw [hkc, cN_upT hk hT]
/-- the loop's end: it holds no more than four -/
theorem sJ_end {dp bc kc : Nat} {di : Nat → Nat} {us : Nat → Bool} {de lo ke : Nat → Nat} {va : Nat → Int32} {T : Nat → Bool} {V : Nat → Int32} {k : Nat} (h : sJ (dp, bc, kc, di, us, de, lo, ke, va) T V k) (hl : lo (be dp di k) ≤ 4 ∨ 6 ≤ de (be dp di k)) : sI (dp, bc, kc, di, us, de, lo, ke, va) T V := by
  obtain ⟨h6, hS, hC, hL, hL5, hN, hb, hkc, hk, hT⟩ := h
  have hl4 : lo (be dp di k) ≤ 4 := by
    rcases hl with q | q
    · exact q
    · have h1 := (hS.1 k).2
      have h2 : de (be dp di k) = 6 := by omega
      rw [lo_ct hS hC k, h2]
      exact ct_6 T k
  refine ⟨h6, hS, hC, fun b hu => ?_, hN, hb, hkc⟩
  by_cases q : b = be dp di k
  · rw [q]; exact hl4
  · exact hL b hu q
theorem sJ_deep {dp bc kc : Nat} {di : Nat → Nat} {us : Nat → Bool} {de lo ke : Nat → Nat} {va : Nat → Int32} {T : Nat → Bool} {V : Nat → Int32} {k : Nat} (h : sJ (dp, bc, kc, di, us, de, lo, ke, va) T V k) (hl : 4 < lo (be dp di k)) : de (be dp di k) ≤ 5 := by
  obtain ⟨h6, hS, hC, -⟩ := h
  have h1 := (hS.1 k).2
  rcases Nat.lt_or_ge (de (be dp di k)) 6 with q | q
  · omega
  · have h2 : de (be dp di k) = 6 := by omega
    rw [lo_ct hS hC k, h2] at hl
    have := ct_6 T k
    omega
/-- what split gives back -/
def spR (dp bc kc : Nat) (di : Nat → Nat) (us : Nat → Bool) (de lo : Nat → Nat) (e : Nat) (T : Nat → Bool) (V : Nat → Int32) (u : SD0) : Prop :=
  ∃ dp' di' c lo' ke' va', u = (dp', bc + 1, kc, di', va_up us c true, va_up (va_up de (be dp di e) (de (be dp di e) + 1)) c (de (be dp di e) + 1), lo', ke', va') ∧ dp' ≤ 6 ∧ de (be dp di e) < dp' ∧ dp ≤ dp' ∧ c < 64 ∧ us c = false ∧
    (∀ k, be dp' di' k = if k % 2 ^ de (be dp di e) = e % 2 ^ de (be dp di e) ∧ k / 2 ^ de (be dp di e) % 2 = 1 then c else be dp di k) ∧
    sC (be dp' di') (va_up us c true) lo' ke' va' T V ∧ (∀ t, t ≠ be dp di e → t ≠ c → lo' t = lo t) ∧ lo' (be dp di e) + lo' c = lo (be dp di e)
theorem sJ_split {dp bc kc : Nat} {di : Nat → Nat} {us : Nat → Bool} {de lo ke : Nat → Nat} {va : Nat → Int32} {T : Nat → Bool} {V : Nat → Int32} {k : Nat} {u : SD0} (h : sJ (dp, bc, kc, di, us, de, lo, ke, va) T V k) (hl : 4 < lo (be dp di k)) (hR : spR dp bc kc di us de lo k T V u) :
    sJ u T V k ∧ ∃ dp' bc' kc' di' us' de' lo' ke' va', u = (dp', bc', kc', di', us', de', lo', ke', va') ∧ de' (be dp' di' k) = de (be dp di k) + 1 := by
  obtain ⟨h6, hS, hC, hL, hL5, hN, hb, hkc, hk, hT⟩ := h
  obtain ⟨dp', di', c, lo', ke', va', rfl, g6, gd, gdp, gc, guc, gbe, gC, glo, gsum⟩ := hR
  have hbe : be dp' di' = fun k' => if k' % 2 ^ de (be dp di k) = k % 2 ^ de (be dp di k) ∧ k' / 2 ^ de (be dp di k) % 2 = 1 then c else be dp di k' := funext gbe
  have hS' := sS_split (sS_dp (dp' := dp') hS (fun k => Nat.le_trans (hS.1 k).2 gdp)) gd guc gc
  have hcn : ∀ k', be dp di k' ≠ c := fun k' q => by
    have := (hS.1 k').1
    rw [q, guc] at this
    cases this
  have hin : ∀ k', k' % 2 ^ de (be dp di k) = k % 2 ^ de (be dp di k) ↔ be dp di k' = be dp di k := by
    intro k'
    have := hS.2.1 k k'
    exact ⟨fun q => (this.mpr q.symm).symm, fun q => (this.mp q.symm).symm⟩
  have hct := lo_ct hS hC k
  -- the new depth
  have hde : ∀ k', be dp di k' = be dp di k → va_up (va_up de (be dp di k) (de (be dp di k) + 1)) c (de (be dp di k) + 1) (be dp' di' k') = de (be dp di k) + 1 := by
    intro k' hk'
    rw [gbe]
    split
    · exact va_up_self _ _ _
    · rw [va_up_ne _ _ (hcn k'), hk', va_up_self]
  refine ⟨⟨g6, by rw [hbe]; exact hS', gC, fun b hu hne => ?_, ?_, fun k' h0 => ?_, ?_, hkc, hk, hT⟩, _, _, _, _, _, _, _, _, _, rfl, hde k rfl⟩
  · obtain ⟨i, hi, -⟩ := gC.2.2 k hk hT
    by_cases q1 : b = be dp di k
    · subst q1
      rw [gbe] at hi hne
      split at hi
      · rename_i z
        rw [if_pos z] at hne
        omega
      · rename_i z
        rw [if_neg z] at hne
        exact absurd rfl hne
    · by_cases q2 : b = c
      · subst q2
        rw [gbe] at hi hne
        split at hi
        · rename_i z
          rw [if_pos z] at hne
          exact absurd rfl hne
        · omega
      · rw [glo b q1 q2]
        rw [va_up_ne _ _ q2] at hu
        exact hL b hu q1
  · rw [gbe]
    split <;> omega
  · by_cases q : be dp di k' = be dp di k
    · rw [hde k' q, Nat.add_sub_cancel]
      rw [ct_congr ((hin k').mpr q), ← hct]
      exact hl
    · have hne : ¬ (k' % 2 ^ de (be dp di k) = k % 2 ^ de (be dp di k) ∧ k' / 2 ^ de (be dp di k) % 2 = 1) := fun z => q ((hin k').mp z.1)
      rw [gbe, if_neg hne, va_up_ne _ _ (hcn k'), va_up_ne _ _ q] at h0 ⊢
      exact hN k' h0
  · rw [hb, cN_upT gc guc]
end
section
/-! plain: two buckets joined; a key taken out -/
theorem xor_sib : ∀ a, a < 256 → ∀ d, d < 6 → (a ^^^ 2 ^ d) % 2 ^ d = a % 2 ^ d ∧ (a ^^^ 2 ^ d) % 2 ^ (d + 1) ≠ a % 2 ^ (d + 1) ∧ a ^^^ 2 ^ d < 256 := by decide +kernel
theorem cpy_0 {α : Type} (f : Nat → α) (sp dp : Nat) : va_cpy f f sp dp 0 = f := by
  funext j
  unfold va_cpy
  rw [if_neg (by omega)]
theorem cpy_step {α : Type} (f : Nat → α) (sp dp i : Nat) : va_up (va_cpy f f sp dp i) (dp + i) (f (sp + i)) = va_cpy f f sp dp (i + 1) := by
  funext j
  unfold va_up va_cpy
  by_cases q : j = dp + i
  · rw [if_pos q, if_pos (by omega), q, Nat.add_sub_cancel_left]
  · rw [if_neg q]
    by_cases q2 : dp ≤ j ∧ j < dp + i
    · rw [if_pos q2, if_pos (by omega)]
    · rw [if_neg q2, if_neg (by omega)]
theorem up_self {α : Type} (f : Nat → α) (k : Nat) : va_up f k (f k) = f := by
  funext j
  unfold va_up
  split
  · rename_i q
    rw [q]
  · rfl
theorem sC_join {dp : Nat} {β : Nat → Nat} {us : Nat → Bool} {de lo ke : Nat → Nat} {va : Nat → Int32} {T : Nat → Bool} {V : Nat → Int32} {a s : Nat} (hS : sS dp β us de) (hC : sC β us lo ke va T V) (hL : ∀ b, us b = true → lo b ≤ 4) (hsum : lo (β a) + lo (β s) ≤ 4) (hne : β s ≠ β a) :
    sC (fun k => if β k = β s then β a else β k) (va_up us (β s) false) (va_up lo (β a) (lo (β a) + lo (β s))) (va_cpy ke ke (β s * 5) (β a * 5 + lo (β a)) (lo (β s))) (va_cpy va va (β s * 5) (β a * 5 + lo (β a)) (lo (β s))) T V := by
  obtain ⟨c1, c2, c3⟩ := hC
  have hub := (hS.1 a).1
  have huc := (hS.1 s).1
  generalize hb : β a = b at *
  generalize hc : β s = c at *
  have lo1 : ∀ j, j < lo b → va_cpy ke ke (c * 5) (b * 5 + lo b) (lo c) (b * 5 + j) = ke (b * 5 + j) ∧ va_cpy va va (c * 5) (b * 5 + lo b) (lo c) (b * 5 + j) = va (b * 5 + j) := fun j hj => ⟨pk_cpy_out (by omega), pk_cpy_out (by omega)⟩
  have hi1 : ∀ j, j < lo c → va_cpy ke ke (c * 5) (b * 5 + lo b) (lo c) (b * 5 + (lo b + j)) = ke (c * 5 + j) ∧ va_cpy va va (c * 5) (b * 5 + lo b) (lo c) (b * 5 + (lo b + j)) = va (c * 5 + j) := fun j hj => by
    have e : c * 5 + (b * 5 + (lo b + j) - (b * 5 + lo b)) = c * 5 + j := by omega
    constructor
    · rw [pk_cpy_in (by omega) (by omega), e]
    · rw [pk_cpy_in (by omega) (by omega), e]
  have ot1 : ∀ t, us t = true → t ≠ b → ∀ j, j < lo t → va_cpy ke ke (c * 5) (b * 5 + lo b) (lo c) (t * 5 + j) = ke (t * 5 + j) ∧ va_cpy va va (c * 5) (b * 5 + lo b) (lo c) (t * 5 + j) = va (t * 5 + j) := fun t ht hn j hj => by
    have := hL t ht
    have hh : t * 5 + j < b * 5 + lo b ∨ b * 5 + lo b + lo c ≤ t * 5 + j := by omega
    exact ⟨pk_cpy_out hh, pk_cpy_out hh⟩
  -- where an entry stood before
  have src : ∀ t, va_up us c false t = true → ∀ j, j < va_up lo b (lo b + lo c) t → ∃ t0 j0, us t0 = true ∧ j0 < lo t0 ∧ va_cpy ke ke (c * 5) (b * 5 + lo b) (lo c) (t * 5 + j) = ke (t0 * 5 + j0) ∧ va_cpy va va (c * 5) (b * 5 + lo b) (lo c) (t * 5 + j) = va (t0 * 5 + j0) ∧ ((t0 = t ∧ j0 = j ∧ t0 ≠ c) ∨ (t = b ∧ t0 = c ∧ j = lo b + j0)) := by
    intro t ht j hj
    have htc : t ≠ c := fun z => by rw [z, va_up_self] at ht; cases ht
    rw [va_up_ne _ _ htc] at ht
    by_cases q : t = b
    · subst q
      rw [va_up_self] at hj
      rcases Nat.lt_or_ge j (lo t) with z | z
      · obtain ⟨g1, g2⟩ := lo1 j z
        exact ⟨t, j, ht, z, g1, g2, Or.inl ⟨rfl, rfl, htc⟩⟩
      · obtain ⟨g1, g2⟩ := hi1 (j - lo t) (by omega)
        rw [show lo t + (j - lo t) = j by omega] at g1 g2
        exact ⟨c, j - lo t, huc, by omega, g1, g2, Or.inr ⟨rfl, rfl, by omega⟩⟩
    · rw [va_up_ne _ _ q] at hj
      obtain ⟨g1, g2⟩ := ot1 t ht q j hj
      exact ⟨t, j, ht, hj, g1, g2, Or.inl ⟨rfl, rfl, htc⟩⟩
  refine ⟨fun t ht j hj => ?_, fun t ht i j hi hj e => ?_, fun k hk hT => ?_⟩
  · obtain ⟨t0, j0, g1, g2, g3, g4, g5⟩ := src t ht j hj
    obtain ⟨k1, k2, k3, k4⟩ := c1 t0 g1 j0 g2
    rw [g3, g4]
    refine ⟨k1, k2, ?_, k4⟩
    show (if β (ke (t0 * 5 + j0)) = c then b else β (ke (t0 * 5 + j0))) = t
    rw [k3]
    rcases g5 with ⟨y1, y2, y3⟩ | ⟨y1, y2, y3⟩
    · rw [if_neg y3, y1]
    · rw [if_pos y2, y1]
  · obtain ⟨t0, i0, g1, g2, g3, g4, g5⟩ := src t ht i hi
    obtain ⟨t1, j1, h1, h2, h3, h4, h5⟩ := src t ht j hj
    rw [g3, h3] at e
    have ht01 : t0 = t1 := by
      rw [← (c1 t0 g1 i0 g2).2.2.1, ← (c1 t1 h1 j1 h2).2.2.1, e]
    subst ht01
    have := c2 t0 g1 i0 j1 g2 h2 e
    rcases g5 with ⟨y1, y2, y3⟩ | ⟨y1, y2, y3⟩ <;> rcases h5 with ⟨z1, z2, z3⟩ | ⟨z1, z2, z3⟩
    · omega
    · exact absurd z2 y3
    · exact absurd y2 z3
    · omega
  · obtain ⟨i, g1, g2⟩ := c3 k hk hT
    by_cases q : β k = c
    · rw [q] at g1 g2
      refine ⟨lo b + i, ?_, ?_⟩
      · show lo b + i < va_up lo b (lo b + lo c) (if β k = c then b else β k)
        rw [if_pos q, va_up_self]
        omega
      · show va_cpy ke ke (c * 5) (b * 5 + lo b) (lo c) ((if β k = c then b else β k) * 5 + (lo b + i)) = k
        rw [if_pos q, (hi1 i g1).1, g2]
    · refine ⟨i, ?_, ?_⟩
      · show i < va_up lo b (lo b + lo c) (if β k = c then b else β k)
        rw [if_neg q]
        by_cases q2 : β k = b
        · rw [q2] at g1 ⊢
          rw [va_up_self]
          omega
        · rw [va_up_ne _ _ q2]
          exact g1
      · show va_cpy ke ke (c * 5) (b * 5 + lo b) (lo c) ((if β k = c then b else β k) * 5 + i) = k
        rw [if_neg q]
        by_cases q2 : β k = b
        · rw [q2] at g1 g2 ⊢
          rw [(lo1 i g1).1, g2]
        · rw [(ot1 _ (hS.1 k).1 q2 i g1).1, g2]
/-- no bucket could be joined, but for those above a key -/
def sNx (β : Nat → Nat) (de : Nat → Nat) (T : Nat → Bool) (a : Nat) : Prop := ∀ k, 0 < de (β k) → k % 2 ^ (de (β k) - 1) ≠ a % 2 ^ (de (β k) - 1) → 4 < ct T k (de (β k) - 1)
def sK (x : SD0) (T : Nat → Bool) (V : Nat → Int32) (a : Nat) : Prop := match x with
  | (dp, bc, kc, di, us, de, lo, ke, va) => dp ≤ 6 ∧ sS dp (be dp di) us de ∧ sC (be dp di) us lo ke va T V ∧ (∀ b, us b = true → lo b ≤ 4) ∧ sNx (be dp di) de T a ∧ bc = cN us 64 ∧ kc = cN T 256 ∧ a < 256
theorem sK_start {dp bc kc : Nat} {di : Nat → Nat} {us : Nat → Bool} {de lo ke : Nat → Nat} {va : Nat → Int32} {T : Nat → Bool} {V : Nat → Int32} {k p : Nat} (h : sI (dp, bc, kc, di, us, de, lo, ke, va) T V) (hk : k < 256) (hp : p < lo (be dp di k)) (hpk : ke (be dp di k * 5 + p) = k) :
    sK (dp, bc, kc - 1, di, us, de, va_up lo (be dp di k) (lo (be dp di k) - 1), va_up ke (be dp di k * 5 + p) (ke (be dp di k * 5 + (lo (be dp di k) - 1))), va_up va (be dp di k * 5 + p) (va (be dp di k * 5 + (lo (be dp di k) - 1)))) (va_up T k false) V k ∧ 0 < kc := by
  obtain ⟨h6, hS, hC, hL, hN, hb, hkc⟩ := h
  have hT : T k = true := by
    have := (hC.1 _ (hS.1 k).1 p hp).2.1
    rw [hpk] at this
    exact this
  have hc := cN_upF hk hT
  refine ⟨⟨h6, hS, sC_del hS hC (fun b hu => by have := hL b hu; omega) hp hpk, fun b hu => ?_, fun k' h0 hne => ?_, hb, by rw [hkc]; omega, hk⟩, by rw [hkc]; omega⟩
  · have := hL b hu
    by_cases q : b = be dp di k
    · subst q
      rw [va_up_self]
      omega
    · rw [va_up_ne _ _ q]
      exact this
  · rw [ct_upF hne]
    exact hN k' h0
/-- what joinAt gives back: joined, or not -/
def jnT (dp bc kc : Nat) (di : Nat → Nat) (us : Nat → Bool) (de lo ke : Nat → Nat) (va : Nat → Int32) (a : Nat) (u : SD0) : Prop :=
  ∃ d s di', u = (dp, bc - 1, kc, di', va_up us (be dp di s) false, va_up de (be dp di a) d, va_up lo (be dp di a) (lo (be dp di a) + lo (be dp di s)), va_cpy ke ke (be dp di s * 5) (be dp di a * 5 + lo (be dp di a)) (lo (be dp di s)), va_cpy va va (be dp di s * 5) (be dp di a * 5 + lo (be dp di a)) (lo (be dp di s))) ∧
    de (be dp di a) = d + 1 ∧ s % 2 ^ d = a % 2 ^ d ∧ s % 2 ^ (d + 1) ≠ a % 2 ^ (d + 1) ∧ de (be dp di s) = d + 1 ∧ lo (be dp di a) + lo (be dp di s) ≤ 4 ∧ ∀ k, be dp di' k = if be dp di k = be dp di s then be dp di a else be dp di k
def jnF (dp : Nat) (di : Nat → Nat) (de lo : Nat → Nat) (a : Nat) : Prop :=
  de (be dp di a) = 0 ∨ ∃ d s, de (be dp di a) = d + 1 ∧ s % 2 ^ d = a % 2 ^ d ∧ s % 2 ^ (d + 1) ≠ a % 2 ^ (d + 1) ∧ (de (be dp di s) ≠ d + 1 ∨ 4 < lo (be dp di a) + lo (be dp di s))
theorem sK_join {dp bc kc : Nat} {di : Nat → Nat} {us : Nat → Bool} {de lo ke : Nat → Nat} {va : Nat → Int32} {T : Nat → Bool} {V : Nat → Int32} {a : Nat} {u : SD0} (h : sK (dp, bc, kc, di, us, de, lo, ke, va) T V a) (hR : jnT dp bc kc di us de lo ke va a u) :
    sK u T V a ∧ ∃ dp' bc' kc' di' us' de' lo' ke' va', u = (dp', bc', kc', di', us', de', lo', ke', va') ∧ de' (be dp' di' a) + 1 = de (be dp di a) := by
  obtain ⟨h6, hS, hC, hL, hN, hb, hkc, ha⟩ := h
  obtain ⟨d, s, di', rfl, g1, g2, g3, g4, g5, g6⟩ := hR
  obtain ⟨hS', hne⟩ := sS_join hS g1 g2 g3 g4
  have hC' := sC_join hS hC hL g5 hne
  have hbe : be dp di' = fun k => if be dp di k = be dp di s then be dp di a else be dp di k := funext g6
  have hnew : ∀ k, be dp di' k = be dp di a ↔ k % 2 ^ d = a % 2 ^ d := by
    intro k
    have hina : ∀ k, k % 2 ^ (d + 1) = a % 2 ^ (d + 1) ↔ be dp di k = be dp di a := by
      intro k
      have := hS.2.1 a k
      rw [g1] at this
      exact ⟨fun q => (this.mpr q.symm).symm, fun q => (this.mp q.symm).symm⟩
    have hins : ∀ k, k % 2 ^ (d + 1) = s % 2 ^ (d + 1) ↔ be dp di k = be dp di s := by
      intro k
      have := hS.2.1 s k
      rw [g4] at this
      exact ⟨fun q => (this.mpr q.symm).symm, fun q => (this.mp q.symm).symm⟩
    rw [g6, md_sib g2 g3 k, hina, hins]
    by_cases q : be dp di k = be dp di s
    · simp [q]
    · simp [q]
  have haa : be dp di' a = be dp di a := (hnew a).mpr rfl
  refine ⟨⟨h6, by rw [hbe]; exact hS', by rw [hbe]; exact hC', fun b hu => ?_, fun k h0 hk => ?_, ?_, hkc, ha⟩, _, _, _, _, _, _, _, _, _, rfl, ?_⟩
  · have hbs : b ≠ be dp di s := fun z => by rw [z, va_up_self] at hu; cases hu
    rw [va_up_ne _ _ hbs] at hu
    by_cases q : b = be dp di a
    · subst q
      rw [va_up_self]
      exact g5
    · rw [va_up_ne _ _ q]
      exact hL b hu
  · by_cases q : be dp di' k = be dp di a
    · rw [q, va_up_self] at hk
      exact absurd (md_le (by omega) ((hnew k).mp q)) hk
    · rw [va_up_ne _ _ q] at h0 hk ⊢
      have hks : be dp di k ≠ be dp di s := fun z => q (by rw [g6, if_pos z])
      rw [g6, if_neg hks] at h0 hk ⊢
      exact hN k h0 hk
  · have h1 := (hS.2.2 _ (hS.1 s).1).1
    have := cN_upF (n := 64) h1 (hS.1 s).1
    omega
  · rw [haa, va_up_self, g1]
/-- the path of a key is full: all is as it must be -/
theorem sN_path {dp : Nat} {β : Nat → Nat} {us : Nat → Bool} {de : Nat → Nat} {T : Nat → Bool} {a d : Nat} (hS : sS dp β us de) (hN : sNx β de T a) (hd : de (β a) = d + 1) (h4 : 4 < ct T a d) : sN β de T := by
  intro k h0
  by_cases q : k % 2 ^ (de (β k) - 1) = a % 2 ^ (de (β k) - 1)
  · have hle : de (β k) - 1 ≤ d := by
      rcases Nat.lt_or_ge d (de (β k) - 1) with z | z
      · have h1 : β a = β k := by
          refine (hS.2.1 a k).mpr ?_
          rw [hd]
          exact md_le (by omega) q.symm
        rw [← h1, hd] at z
        omega
      · exact z
    rw [ct_congr q]
    exact Nat.lt_of_lt_of_le h4 (ct_anti hle)
  · exact hN k h0 q
theorem sN_zero {dp : Nat} {β : Nat → Nat} {us : Nat → Bool} {de : Nat → Nat} {T : Nat → Bool} {a : Nat} (hS : sS dp β us de) (hd : de (β a) = 0) : sN β de T := by
  intro k h0
  have h1 : β a = β k := by
    refine (hS.2.1 a k).mpr ?_
    rw [hd]
    simp [Nat.mod_one]
  rw [← h1, hd] at h0
  omega
theorem sK_stop {dp bc kc : Nat} {di : Nat → Nat} {us : Nat → Bool} {de lo ke : Nat → Nat} {va : Nat → Int32} {T : Nat → Bool} {V : Nat → Int32} {a : Nat} (h : sK (dp, bc, kc, di, us, de, lo, ke, va) T V a) (hR : jnF dp di de lo a) : sI (dp, bc, kc, di, us, de, lo, ke, va) T V := by
  obtain ⟨h6, hS, hC, hL, hN, hb, hkc, ha⟩ := h
  refine ⟨h6, hS, hC, hL, ?_, hb, hkc⟩
  rcases hR with q | ⟨d, s, g1, g2, g3, g4⟩
  · exact sN_zero hS q
  · refine sN_path hS hN g1 ?_
    by_cases q : de (be dp di s) = d + 1
    · have h4 : 4 < lo (be dp di a) + lo (be dp di s) := by
        rcases g4 with z | z
        · exact absurd q z
        · exact z
      rw [lo_ct hS hC a, lo_ct hS hC s, g1, q] at h4
      refine Nat.lt_of_lt_of_le h4 ?_
      unfold ct
      rw [cN_split (fun j => T j && (j % 2 ^ d == a % 2 ^ d)) (fun j => j % 2 ^ (d + 1) == a % 2 ^ (d + 1)) 256]
      refine Nat.add_le_add (cN_mono (fun i _ hi => ?_)) (cN_mono (fun i _ hi => ?_))
      · simp only [Bool.and_eq_true, beq_iff_eq] at hi ⊢
        exact ⟨⟨hi.1, md_le (by omega) hi.2⟩, hi.2⟩
      · simp only [Bool.and_eq_true, beq_iff_eq, Bool.not_eq_true', beq_eq_false_iff_ne] at hi ⊢
        refine ⟨⟨hi.1, (md_le (by omega) hi.2).trans g2⟩, fun z => g3 (hi.2.symm.trans z)⟩
    · have hdeep := sS_deep hS g1 g2 g3
      have hs := hN s (by omega) (fun z => g3 (md_le (by omega) z))
      rw [← ct_congr g2]
      exact Nat.lt_of_lt_of_le hs (ct_anti (by omega))
theorem sK_zero {dp bc kc : Nat} {di : Nat → Nat} {us : Nat → Bool} {de lo ke : Nat → Nat} {va : Nat → Int32} {T : Nat → Bool} {V : Nat → Int32} {a : Nat} (h : sK (dp, bc, kc, di, us, de, lo, ke, va) T V a) (hd : de (be dp di a) = 0) : sI (dp, bc, kc, di, us, de, lo, ke, va) T V := sK_stop h (Or.inl hd)
/-- the directory halves -/
theorem sI_halve {p bc kc : Nat} {di : Nat → Nat} {us : Nat → Bool} {de lo ke : Nat → Nat} {va : Nat → Int32} {T : Nat → Bool} {V : Nat → Int32} (h : sI (p + 1, bc, kc, di, us, de, lo, ke, va) T V) (hm : mxU us de 64 < p + 1) : sI (p, bc, kc, di, us, de, lo, ke, va) T V := by
  obtain ⟨h6, hS, hC, hL, hN, hb, hkc⟩ := h
  have hd : ∀ k, de (be (p + 1) di k) ≤ p := fun k => by
    have h1 := hS.1 k
    have := mxU_ge (de := de) (hS.lt k) h1.1
    omega
  have hbe : be p di = be (p + 1) di := funext (be_halve hS hd)
  refine ⟨by omega, ?_, ?_, hL, ?_, hb, hkc⟩
  · rw [hbe]; exact sS_dp hS hd
  · rw [hbe]; exact hC
  · rw [hbe]; exact hN
end
section
/-! plain: the directory's loops in split and joinAt; what a bucket answers -/
theorem dir_double {dp : Nat} {di : Nat → Nat} (k : Nat) : be (dp + 1) (va_cpy di di 0 (2 ^ dp) (2 ^ dp)) k = be dp di k := by
  refine be_double (fun j hj => ?_) k
  rw [Nat.pow_succ] at hj
  by_cases q : 2 ^ dp ≤ j
  · rw [if_pos q, pk_cpy_in q (by omega), Nat.zero_add]
  · rw [if_neg q, pk_cpy_out (by omega)]
/-- the directory while the new bucket is entered -/
def spD (di : Nat → Nat) (d e c i : Nat) : Nat → Nat := fun j => if j < i ∧ j % 2 ^ d = e % 2 ^ d ∧ j / 2 ^ d % 2 = 1 then c else di j
theorem spD_0 (di : Nat → Nat) (d e c : Nat) : spD di d e c 0 = di := by
  funext j
  exact if_neg (fun z => by omega)
theorem spD_T {di : Nat → Nat} {d e c i : Nat} (h : i % 2 ^ d = e % 2 ^ d ∧ i / 2 ^ d % 2 = 1) : spD di d e c (i + 1) = va_up (spD di d e c i) i c := by
  funext j
  unfold spD va_up
  by_cases q : j = i
  · subst q
    rw [if_pos ⟨by omega, h⟩, if_pos rfl]
  · rw [if_neg q]
    dsimp only
    by_cases q2 : j < i ∧ j % 2 ^ d = e % 2 ^ d ∧ j / 2 ^ d % 2 = 1
    · rw [if_pos q2, if_pos ⟨by omega, q2.2⟩]
    · rw [if_neg q2, if_neg (fun z => q2 ⟨by omega, z.2⟩)]
theorem spD_F {di : Nat → Nat} {d e c i : Nat} (h : ¬ (i % 2 ^ d = e % 2 ^ d ∧ i / 2 ^ d % 2 = 1)) : spD di d e c (i + 1) = spD di d e c i := by
  funext j
  unfold spD
  by_cases q2 : j < i ∧ j % 2 ^ d = e % 2 ^ d ∧ j / 2 ^ d % 2 = 1
  · rw [if_pos q2, if_pos ⟨by omega, q2.2⟩]
  · rw [if_neg q2, if_neg (fun z => ?_)]
    rcases Nat.lt_or_ge j i with y | y
    · exact q2 ⟨y, z.2⟩
    · have : j = i := by omega
      subst this
      exact h z.2
theorem spD_end {di : Nat → Nat} {dp d e c : Nat} (hd : d < dp) (k : Nat) : be dp (spD di d e c (2 ^ dp)) k = if k % 2 ^ d = e % 2 ^ d ∧ k / 2 ^ d % 2 = 1 then c else be dp di k := by
  have hlt := Nat.mod_lt k (show 0 < 2 ^ dp from Nat.pow_pos (by omega))
  have h1 : k % 2 ^ dp % 2 ^ (d + 1) = k % 2 ^ (d + 1) := md_mm (by omega)
  obtain ⟨h2, h3⟩ := md_succ.mp h1
  unfold be spD
  rw [h2, h3]
  by_cases q : k % 2 ^ d = e % 2 ^ d ∧ k / 2 ^ d % 2 = 1
  · rw [if_pos q, if_pos ⟨hlt, q⟩]
  · rw [if_neg q, if_neg (fun z => q z.2)]
theorem sp_end {dp bc kc : Nat} {di : Nat → Nat} {us : Nat → Bool} {de lo ke : Nat → Nat} {va : Nat → Int32} {T : Nat → Bool} {V : Nat → Int32} {e c dp' : Nat} {di' lo' ke' : Nat → Nat} {va' : Nat → Int32} (hS : sS dp (be dp di) us de) (hC : sC (be dp di) us lo ke va T V) (hL : ∀ b, us b = true → lo b ≤ 5) (h6 : dp' ≤ 6) (hd : de (be dp di e) < dp') (hdp : dp ≤ dp') (hbe : ∀ k, be dp' di' k = be dp di k) (hc : c < 64) (huc : us c = false) (hI : rI (be dp di e) c (de (be dp di e)) ke va lo (lo (be dp di e)) lo' ke' va') :
    spR dp bc kc di us de lo e T V (dp', bc + 1, kc, spD di' (de (be dp di e)) e c (2 ^ dp'), va_up us c true, va_up (va_up de (be dp di e) (de (be dp di e) + 1)) c (de (be dp di e) + 1), lo', ke', va') := by
  have hb : ∀ k, be dp' (spD di' (de (be dp di e)) e c (2 ^ dp')) k = if k % 2 ^ de (be dp di e) = e % 2 ^ de (be dp di e) ∧ k / 2 ^ de (be dp di e) % 2 = 1 then c else be dp di k := fun k => by
    rw [spD_end hd k, hbe]
  refine ⟨dp', _, c, lo', ke', va', rfl, h6, hd, hdp, hc, huc, hb, ?_, hI.2.1, hI.1⟩
  rw [show be dp' (spD di' (de (be dp di e)) e c (2 ^ dp')) = fun k => if k % 2 ^ de (be dp di e) = e % 2 ^ de (be dp di e) ∧ k / 2 ^ de (be dp di e) % 2 = 1 then c else be dp di k from funext hb]
  exact rI_end hS hC hL huc hI
/-- the directory while a bucket is taken out -/
def jnD (di : Nat → Nat) (b c i : Nat) : Nat → Nat := fun j => if j < i ∧ di j = c then b else di j
theorem jnD_0 (di : Nat → Nat) (b c : Nat) : jnD di b c 0 = di := by
  funext j
  exact if_neg (fun z => by omega)
theorem jnD_at (di : Nat → Nat) (b c i : Nat) : jnD di b c i i = di i := if_neg (fun z => by omega)
theorem jnD_T {di : Nat → Nat} {b c i : Nat} (h : di i = c) : jnD di b c (i + 1) = va_up (jnD di b c i) i b := by
  funext j
  unfold jnD va_up
  by_cases q : j = i
  · subst q
    rw [if_pos ⟨by omega, h⟩, if_pos rfl]
  · rw [if_neg q]
    dsimp only
    by_cases q2 : j < i ∧ di j = c
    · rw [if_pos q2, if_pos ⟨by omega, q2.2⟩]
    · rw [if_neg q2, if_neg (fun z => q2 ⟨by omega, z.2⟩)]
theorem jnD_F {di : Nat → Nat} {b c i : Nat} (h : di i ≠ c) : jnD di b c (i + 1) = va_up (jnD di b c i) i (di i) := by
  funext j
  unfold jnD va_up
  by_cases q : j = i
  · subst q
    rw [if_neg (fun z => h z.2), if_pos rfl]
  · rw [if_neg q]
    dsimp only
    by_cases q2 : j < i ∧ di j = c
    · rw [if_pos q2, if_pos ⟨by omega, q2.2⟩]
    · rw [if_neg q2, if_neg (fun z => q2 ⟨by omega, z.2⟩)]
theorem jnD_end {di : Nat → Nat} {dp b c : Nat} (k : Nat) : be dp (jnD di b c (2 ^ dp)) k = if be dp di k = c then b else be dp di k := by
  have hlt := Nat.mod_lt k (show 0 < 2 ^ dp from Nat.pow_pos (by omega))
  unfold be jnD
  by_cases q : di (k % 2 ^ dp) = c
  · rw [if_pos q, if_pos ⟨hlt, q⟩]
  · rw [if_neg q, if_neg (fun z => q z.2)]
theorem di_lt {dp : Nat} {di : Nat → Nat} {us : Nat → Bool} {de : Nat → Nat} (hS : sS dp (be dp di) us de) {i : Nat} (hi : i < 2 ^ dp) : di i < 64 := by
  have := hS.lt i
  unfold be at this
  rw [Nat.mod_eq_of_lt hi] at this
  exact this
theorem sI_de {dp bc kc : Nat} {di : Nat → Nat} {us : Nat → Bool} {de lo ke : Nat → Nat} {va : Nat → Int32} {T : Nat → Bool} {V : Nat → Int32} (h : sI (dp, bc, kc, di, us, de, lo, ke, va) T V) : ∀ b, us b = true → de b ≤ 6 := by
  obtain ⟨h6, hS, -⟩ := h
  intro b hu
  obtain ⟨-, k, rfl⟩ := hS.2.2 b hu
  have := (hS.1 k).2
  omega
theorem sI_iB {dp bc kc : Nat} {di : Nat → Nat} {us : Nat → Bool} {de lo ke : Nat → Nat} {va : Nat → Int32} {T : Nat → Bool} {V : Nat → Int32} (h : sI (dp, bc, kc, di, us, de, lo, ke, va) T V) (k : Nat) : iB T k (de (be dp di k)) = true := by
  obtain ⟨h6, hS, hC, hL, hN, -, -⟩ := h
  exact sN_iB hS hC hL hN k
theorem sI_bk {dp bc kc : Nat} {di : Nat → Nat} {us : Nat → Bool} {de lo ke : Nat → Nat} {va : Nat → Int32} {T : Nat → Bool} {V : Nat → Int32} (h : sI (dp, bc, kc, di, us, de, lo, ke, va) T V) : bc = bk T := by
  have hB := sI_iB h
  obtain ⟨h6, hS, -, -, -, hbc, -⟩ := h
  rw [bk_us hS h6 hB]
  exact hbc
theorem sI_V {dp bc kc : Nat} {di : Nat → Nat} {us : Nat → Bool} {de lo ke : Nat → Nat} {va : Nat → Int32} {T : Nat → Bool} {V V' : Nat → Int32} (h : sI (dp, bc, kc, di, us, de, lo, ke, va) T V) (hV : ∀ k, T k = true → V k = V' k) : sI (dp, bc, kc, di, us, de, lo, ke, va) T V' := by
  obtain ⟨h6, hS, ⟨c1, c2, c3⟩, hr⟩ := h
  refine ⟨h6, hS, ⟨fun b hu i hi => ?_, c2, c3⟩, hr⟩
  obtain ⟨g1, g2, g3, g4⟩ := c1 b hu i hi
  exact ⟨g1, g2, g3, by rw [g4]; exact hV _ g2⟩
theorem sI_set {dp bc kc : Nat} {di : Nat → Nat} {us : Nat → Bool} {de lo ke : Nat → Nat} {va : Nat → Int32} {T : Nat → Bool} {V : Nat → Int32} {j i : Nat} {v : Int32} (h : sI (dp, bc, kc, di, us, de, lo, ke, va) T V) (hi : i < lo (be dp di j)) (hk : ke (be dp di j * 5 + i) = j) : sI (dp, bc, kc, di, us, de, lo, ke, va_up va (be dp di j * 5 + i) v) T (va_up V j v) := by
  obtain ⟨h6, hS, ⟨c1, c2, c3⟩, hL, hr⟩ := h
  refine ⟨h6, hS, ⟨fun b hu t ht => ?_, c2, c3⟩, hL, hr⟩
  obtain ⟨g1, g2, g3, g4⟩ := c1 b hu t ht
  refine ⟨g1, g2, g3, ?_⟩
  have hb4 := hL b hu
  have hj4 := hL _ (hS.1 j).1
  by_cases q : b = be dp di j
  · subst q
    by_cases q2 : t = i
    · subst q2
      rw [va_up_self, hk, va_up_self]
    · have hne : ke (be dp di j * 5 + t) ≠ j := fun z => q2 (c2 _ hu t i ht hi (z.trans hk.symm))
      rw [va_up_ne _ _ (ps_ne2 q2), va_up_ne _ _ hne]
      exact g4
  · have hne : ke (b * 5 + t) ≠ j := fun z => by
      rw [z] at g3
      exact q g3.symm
    rw [va_up_ne _ _ (ps_ne (by omega) (by omega) q), va_up_ne _ _ hne]
    exact g4
/-- what stands in a bucket, in the keys' words -/
theorem sI_in {dp bc kc : Nat} {di : Nat → Nat} {us : Nat → Bool} {de lo ke : Nat → Nat} {va : Nat → Int32} {T : Nat → Bool} {V : Nat → Int32} (h : sI (dp, bc, kc, di, us, de, lo, ke, va) T V) (k : Nat) : be dp di k < 64 ∧ lo (be dp di k) ≤ 4 ∧ de (be dp di k) ≤ 6 ∧ (∀ i, i < lo (be dp di k) → ke (be dp di k * 5 + i) < 256) := by
  obtain ⟨h6, hS, hC, hL, -⟩ := h
  have h1 := (hS.1 k)
  exact ⟨hS.lt k, hL _ h1.1, by omega, fun i hi => (hC.1 _ h1.1 i hi).1⟩
theorem sI_kc {dp bc kc : Nat} {di : Nat → Nat} {us : Nat → Bool} {de lo ke : Nat → Nat} {va : Nat → Int32} {T : Nat → Bool} {V : Nat → Int32} (h : sI (dp, bc, kc, di, us, de, lo, ke, va) T V) : kc = cN T 256 ∧ kc ≤ 256 := by
  obtain ⟨-, -, -, -, -, -, hkc⟩ := h
  exact ⟨hkc, by rw [hkc]; exact cN_le _ _⟩
/-- the start: one empty bucket -/
theorem sI_start {ke : Nat → Nat} {va V : Nat → Int32} {di de lo : Nat → Nat} (hdi : di 0 = 0) (hde : de 0 = 0) (hlo : lo 0 = 0) : sI (0, 1, 0, di, va_up (fun _ => false) 0 true, de, lo, ke, va) (fun _ => false) V := by
  have hb : ∀ k, be 0 di k = 0 := fun k => by
    unfold be
    rw [Nat.pow_zero, Nat.mod_one]
    exact hdi
  have hu : ∀ b, va_up (fun _ => false) 0 true b = true → b = 0 := fun b h => by
    by_cases q : b = 0
    · exact q
    · rw [va_up_ne _ _ q] at h
      cases h
  refine ⟨by omega, ⟨fun k => ?_, fun k k' => ?_, fun b h => ?_⟩, ⟨fun b h i hi => ?_, fun b h i j hi => ?_, fun k _ h => ?_⟩, fun b h => ?_, fun k h => ?_, ?_, ?_⟩
  · rw [hb, hde]
    exact ⟨va_up_self _ _ _, Nat.le_refl _⟩
  · rw [hb, hb, hde, Nat.pow_zero, Nat.mod_one, Nat.mod_one]
  · rw [hu b h]
    exact ⟨by omega, 0, hb 0⟩
  · rw [hu b h, hlo] at hi
    omega
  · rw [hu b h, hlo] at hi
    omega
  · cases h
  · rw [hu b h, hlo]
    omega
  · rw [hb, hde] at h
    omega
  · decide +kernel
  · decide +kernel
/-- the keys of a bucket in their order: the class counts within the bucket -/
theorem sI_rank {dp bc kc : Nat} {di : Nat → Nat} {us : Nat → Bool} {de lo ke : Nat → Nat} {va : Nat → Int32} {T : Nat → Bool} {V : Nat → Int32} (h : sI (dp, bc, kc, di, us, de, lo, ke, va) T V) (k : Nat) {x : Nat} (hx : x ≤ 256) : cN (fun i => decide (ke (be dp di k * 5 + i) < x)) (lo (be dp di k)) = cN (fun j => T j && (j % 2 ^ de (be dp di k) == k % 2 ^ de (be dp di k))) x := by
  obtain ⟨h6, hS, ⟨c1, c2, c3⟩, -⟩ := h
  have hu := (hS.1 k).1
  have hmem : ∀ j, (T j && (j % 2 ^ de (be dp di k) == k % 2 ^ de (be dp di k))) = true → T j = true ∧ be dp di k = be dp di j := fun j hj => by
    simp only [Bool.and_eq_true, beq_iff_eq] at hj
    exact ⟨hj.1, (hS.2.1 k j).mpr hj.2.symm⟩
  have hch : ∀ j : Nat, ∃ i, (j < 256 → T j = true → be dp di k = be dp di j → i < lo (be dp di k) ∧ ke (be dp di k * 5 + i) = j) := fun j => by
    rcases Classical.em (j < 256 ∧ T j = true ∧ be dp di k = be dp di j) with z | z
    · obtain ⟨i, h1, h2⟩ := c3 j z.1 z.2.1
      rw [← z.2.2] at h1 h2
      exact ⟨i, fun _ _ _ => ⟨h1, h2⟩⟩
    · exact ⟨0, fun y1 y2 y3 => absurd ⟨y1, y2, y3⟩ z⟩
  obtain ⟨g, hg⟩ := Classical.axiomOfChoice hch
  refine cN_bij (fun i => ke (be dp di k * 5 + i)) g (fun i hi hp => ?_) (fun i j hi hj _ _ e => c2 _ hu i j hi hj e) (fun j hj hp => ?_) (fun i j hi hj hpi hpj e => ?_)
  · obtain ⟨g1, g2, g3, -⟩ := c1 _ hu i hi
    refine ⟨of_decide_eq_true hp, ?_⟩
    show (T (ke (be dp di k * 5 + i)) && (ke (be dp di k * 5 + i) % 2 ^ de (be dp di k) == k % 2 ^ de (be dp di k))) = true
    rw [g2, Bool.true_and, beq_iff_eq]
    exact ((hS.2.1 k _).mp g3.symm).symm
  · obtain ⟨y1, y2⟩ := hmem j hp
    obtain ⟨z1, z2⟩ := hg j (by omega) y1 y2
    refine ⟨z1, ?_⟩
    show decide (ke (be dp di k * 5 + g j) < x) = true
    rw [z2]
    exact decide_eq_true hj
  · obtain ⟨y1, y2⟩ := hmem i hpi
    obtain ⟨y3, y4⟩ := hmem j hpj
    have e1 := (hg i (by omega) y1 y2).2
    have e2 := (hg j (by omega) y3 y4).2
    rw [e] at e1
    exact e1.symm.trans e2
end
section
/-! the worlds of the two objects: SplitDirectory (class 0), SplitDirectoryModel (class 1); their field and array rows -/
/-- depth, bucketCount, keyCount, directory, used, depths, loads, keys, values -/
abbrev SD : Type := Nat × Nat × Nat × (Nat → Nat) × (Nat → Bool) × (Nat → Nat) × (Nat → Nat) × (Nat → Nat) × (Nat → Int32)
abbrev sdT (cs : Nat → ClassId) : List (ClassId × FieldType) := [(cs 1, .byte), (cs 2, .boolean), (cs 3, .byte), (cs 4, .byte), (cs 5, .short), (cs 6, .int)]
def sdW (h : Nat → Nat) (cs : Nat → ClassId) (x : SD) : va_W := match x with
  | (dp, bc, kc, di, us, de, lo, ke, va) => [(h 0, .inr (0, [.int (nI dp), .ref (h 1), .ref (h 2), .ref (h 3), .ref (h 4), .ref (h 5), .ref (h 6), .int (nI bc), .int (nI kc)])), (h 1, .inl (cs 1, 64, .inl (fun j => nI (di j)))), (h 2, .inl (cs 2, 65, .inl (fun j => nI (us j).toNat))), (h 3, .inl (cs 3, 65, .inl (fun j => nI (de j)))), (h 4, .inl (cs 4, 65, .inl (fun j => nI (lo j)))), (h 5, .inl (cs 5, 325, .inl (fun j => nI (ke j)))), (h 6, .inl (cs 6, 325, .inl va))]
/-- there, values, counts -/
abbrev MD : Type := (Nat → Bool) × (Nat → Int32) × (Nat → Nat)
abbrev mdT (cs : Nat → ClassId) : List (ClassId × FieldType) := [(cs 1, .boolean), (cs 2, .int), (cs 3, .int)]
def mdW (h : Nat → Nat) (cs : Nat → ClassId) (x : MD) : va_W := match x with
  | (T, V, C) => [(h 0, .inr (1, [.ref (h 1), .ref (h 2), .ref (h 3)])), (h 1, .inl (cs 1, 256, .inl (fun j => nI (T j).toNat))), (h 2, .inl (cs 2, 256, .inl V)), (h 3, .inl (cs 3, 511, .inl (fun j => nI (C j))))]
section WORLDS
variable {p : Program} {l : Launch} {e : Env} {R : Room} {s : State} {m : MethodId} {args : Array Value} {below : List Frame} {meth : Method} {c : Code} {H : Heap} {locs : List Loc} {cells slots : Nat} {Q : State → Prop}
variable {cc : ByteArray} {pc : Nat} {ls : Array Slot} {rest : List Value} {nL : Nat} {D : va_G} {A : Nat → Prop} {h : Nat → Nat} {cs : Nat → ClassId}
variable {dp bc kc : Nat} {di de lo ke : Nat → Nat} {us : Nat → Bool} {va : Nat → Int32} {T : Nat → Bool} {V : Nat → Int32} {C : Nat → Nat}
theorem g_sd_dp (F : CallFix p m c cc nL s args lw_all RX0) (hX : wX D (sdT cs) A s (sdW h cs (dp, bc, kc, di, us, de, lo, ke, va)) H locs) (hdg : decode cc pc = .ok (.getfield 35, 3)) (kk : W p l e R s m args below meth c H locs cells slots Q (F0 m (pc + 3) ls (.int (nI dp) :: rest))) : W p l e R s m args below meth c H locs cells slots Q (F0 m pc ls (.ref (h 0) :: rest)) := va_get (D := D) (ci := 0) (v := .int (nI dp)) (C := RX0) (T := TX0) (N := 9) F.1 F.2.1 F.2.2.2.2 in_X0 F.2.2.2.1 hX.1 hX.2.1 0 rfl rfl 0 (by decide) (F.2.2.2.2 _ q23) (fun _ h9 => h9) rfl hdg kk
theorem p_sd_dp {v : Nat} (F : CallFix p m c cc nL s args lw_all RX0) (hX : wX D (sdT cs) A s (sdW h cs (dp, bc, kc, di, us, de, lo, ke, va)) H locs) (hdg : decode cc pc = .ok (.putfield 35, 3)) (kk : ∀ (H1 : Heap) (locs1 : List Loc), wX D (sdT cs) A s (sdW h cs (v, bc, kc, di, us, de, lo, ke, va)) H1 locs1 → W p l e R s m args below meth c H1 locs1 cells slots Q (F0 m (pc + 3) ls rest)) : W p l e R s m args below meth c H locs cells slots Q (F0 m pc ls (.int (nI v) :: .ref (h 0) :: rest)) := va_put (D := D) (ci := 0) (v := .int (nI v)) (ty := .int) (C := RX0) (T := TX0) (N := 9) F.1 F.2.1 F.2.2.2.2 in_X0 tyX0 tyX0_ok nmX0 F.2.2.2.1 hX.1 hX.2.1 hX.2.2.1 hX.2.2.2.1 0 rfl rfl 0 (by decide) (F.2.2.2.2 _ q23) (fun _ h9 => h9) rfl (by decide +kernel) rfl rfl (Nat.le_of_ble_eq_true rfl) hdg (fun H1 locs1 hP hD hS => kk H1 locs1 ⟨hX.1, hP, hD, hS, hX.2.2.2.2⟩)
theorem g_sd_di (F : CallFix p m c cc nL s args lw_all RX0) (hX : wX D (sdT cs) A s (sdW h cs (dp, bc, kc, di, us, de, lo, ke, va)) H locs) (hdg : decode cc pc = .ok (.getfield 7, 3)) (kk : W p l e R s m args below meth c H locs cells slots Q (F0 m (pc + 3) ls (.ref (h 1) :: rest))) : W p l e R s m args below meth c H locs cells slots Q (F0 m pc ls (.ref (h 0) :: rest)) := va_get (D := D) (ci := 0) (v := .ref (h 1)) (C := RX0) (T := TX0) (N := 9) F.1 F.2.1 F.2.2.2.2 in_X0 F.2.2.2.1 hX.1 hX.2.1 0 rfl rfl 1 (by decide) (F.2.2.2.2 _ q24) (fun _ h9 => h9) rfl hdg kk
theorem g_sd_us (F : CallFix p m c cc nL s args lw_all RX0) (hX : wX D (sdT cs) A s (sdW h cs (dp, bc, kc, di, us, de, lo, ke, va)) H locs) (hdg : decode cc pc = .ok (.getfield 13, 3)) (kk : W p l e R s m args below meth c H locs cells slots Q (F0 m (pc + 3) ls (.ref (h 2) :: rest))) : W p l e R s m args below meth c H locs cells slots Q (F0 m pc ls (.ref (h 0) :: rest)) := va_get (D := D) (ci := 0) (v := .ref (h 2)) (C := RX0) (T := TX0) (N := 9) F.1 F.2.1 F.2.2.2.2 in_X0 F.2.2.2.1 hX.1 hX.2.1 0 rfl rfl 2 (by decide) (F.2.2.2.2 _ q25) (fun _ h9 => h9) rfl hdg kk
theorem g_sd_de (F : CallFix p m c cc nL s args lw_all RX0) (hX : wX D (sdT cs) A s (sdW h cs (dp, bc, kc, di, us, de, lo, ke, va)) H locs) (hdg : decode cc pc = .ok (.getfield 17, 3)) (kk : W p l e R s m args below meth c H locs cells slots Q (F0 m (pc + 3) ls (.ref (h 3) :: rest))) : W p l e R s m args below meth c H locs cells slots Q (F0 m pc ls (.ref (h 0) :: rest)) := va_get (D := D) (ci := 0) (v := .ref (h 3)) (C := RX0) (T := TX0) (N := 9) F.1 F.2.1 F.2.2.2.2 in_X0 F.2.2.2.1 hX.1 hX.2.1 0 rfl rfl 3 (by decide) (F.2.2.2.2 _ q26) (fun _ h9 => h9) rfl hdg kk
theorem g_sd_lo (F : CallFix p m c cc nL s args lw_all RX0) (hX : wX D (sdT cs) A s (sdW h cs (dp, bc, kc, di, us, de, lo, ke, va)) H locs) (hdg : decode cc pc = .ok (.getfield 20, 3)) (kk : W p l e R s m args below meth c H locs cells slots Q (F0 m (pc + 3) ls (.ref (h 4) :: rest))) : W p l e R s m args below meth c H locs cells slots Q (F0 m pc ls (.ref (h 0) :: rest)) := va_get (D := D) (ci := 0) (v := .ref (h 4)) (C := RX0) (T := TX0) (N := 9) F.1 F.2.1 F.2.2.2.2 in_X0 F.2.2.2.1 hX.1 hX.2.1 0 rfl rfl 4 (by decide) (F.2.2.2.2 _ q27) (fun _ h9 => h9) rfl hdg kk
theorem g_sd_ke (F : CallFix p m c cc nL s args lw_all RX0) (hX : wX D (sdT cs) A s (sdW h cs (dp, bc, kc, di, us, de, lo, ke, va)) H locs) (hdg : decode cc pc = .ok (.getfield 23, 3)) (kk : W p l e R s m args below meth c H locs cells slots Q (F0 m (pc + 3) ls (.ref (h 5) :: rest))) : W p l e R s m args below meth c H locs cells slots Q (F0 m pc ls (.ref (h 0) :: rest)) := va_get (D := D) (ci := 0) (v := .ref (h 5)) (C := RX0) (T := TX0) (N := 9) F.1 F.2.1 F.2.2.2.2 in_X0 F.2.2.2.1 hX.1 hX.2.1 0 rfl rfl 5 (by decide) (F.2.2.2.2 _ q28) (fun _ h9 => h9) rfl hdg kk
theorem g_sd_va (F : CallFix p m c cc nL s args lw_all RX0) (hX : wX D (sdT cs) A s (sdW h cs (dp, bc, kc, di, us, de, lo, ke, va)) H locs) (hdg : decode cc pc = .ok (.getfield 27, 3)) (kk : W p l e R s m args below meth c H locs cells slots Q (F0 m (pc + 3) ls (.ref (h 6) :: rest))) : W p l e R s m args below meth c H locs cells slots Q (F0 m pc ls (.ref (h 0) :: rest)) := va_get (D := D) (ci := 0) (v := .ref (h 6)) (C := RX0) (T := TX0) (N := 9) F.1 F.2.1 F.2.2.2.2 in_X0 F.2.2.2.1 hX.1 hX.2.1 0 rfl rfl 6 (by decide) (F.2.2.2.2 _ q29) (fun _ h9 => h9) rfl hdg kk
theorem g_sd_bc (F : CallFix p m c cc nL s args lw_all RX0) (hX : wX D (sdT cs) A s (sdW h cs (dp, bc, kc, di, us, de, lo, ke, va)) H locs) (hdg : decode cc pc = .ok (.getfield 31, 3)) (kk : W p l e R s m args below meth c H locs cells slots Q (F0 m (pc + 3) ls (.int (nI bc) :: rest))) : W p l e R s m args below meth c H locs cells slots Q (F0 m pc ls (.ref (h 0) :: rest)) := va_get (D := D) (ci := 0) (v := .int (nI bc)) (C := RX0) (T := TX0) (N := 9) F.1 F.2.1 F.2.2.2.2 in_X0 F.2.2.2.1 hX.1 hX.2.1 0 rfl rfl 7 (by decide) (F.2.2.2.2 _ q30) (fun _ h9 => h9) rfl hdg kk
theorem p_sd_bc {v : Nat} (F : CallFix p m c cc nL s args lw_all RX0) (hX : wX D (sdT cs) A s (sdW h cs (dp, bc, kc, di, us, de, lo, ke, va)) H locs) (hdg : decode cc pc = .ok (.putfield 31, 3)) (kk : ∀ (H1 : Heap) (locs1 : List Loc), wX D (sdT cs) A s (sdW h cs (dp, v, kc, di, us, de, lo, ke, va)) H1 locs1 → W p l e R s m args below meth c H1 locs1 cells slots Q (F0 m (pc + 3) ls rest)) : W p l e R s m args below meth c H locs cells slots Q (F0 m pc ls (.int (nI v) :: .ref (h 0) :: rest)) := va_put (D := D) (ci := 0) (v := .int (nI v)) (ty := .int) (C := RX0) (T := TX0) (N := 9) F.1 F.2.1 F.2.2.2.2 in_X0 tyX0 tyX0_ok nmX0 F.2.2.2.1 hX.1 hX.2.1 hX.2.2.1 hX.2.2.2.1 0 rfl rfl 7 (by decide) (F.2.2.2.2 _ q30) (fun _ h9 => h9) rfl (by decide +kernel) rfl rfl (Nat.le_of_ble_eq_true rfl) hdg (fun H1 locs1 hP hD hS => kk H1 locs1 ⟨hX.1, hP, hD, hS, hX.2.2.2.2⟩)
theorem g_sd_kc (F : CallFix p m c cc nL s args lw_all RX0) (hX : wX D (sdT cs) A s (sdW h cs (dp, bc, kc, di, us, de, lo, ke, va)) H locs) (hdg : decode cc pc = .ok (.getfield 50, 3)) (kk : W p l e R s m args below meth c H locs cells slots Q (F0 m (pc + 3) ls (.int (nI kc) :: rest))) : W p l e R s m args below meth c H locs cells slots Q (F0 m pc ls (.ref (h 0) :: rest)) := va_get (D := D) (ci := 0) (v := .int (nI kc)) (C := RX0) (T := TX0) (N := 9) F.1 F.2.1 F.2.2.2.2 in_X0 F.2.2.2.1 hX.1 hX.2.1 0 rfl rfl 8 (by decide) (F.2.2.2.2 _ q31) (fun _ h9 => h9) rfl hdg kk
theorem p_sd_kc {v : Nat} (F : CallFix p m c cc nL s args lw_all RX0) (hX : wX D (sdT cs) A s (sdW h cs (dp, bc, kc, di, us, de, lo, ke, va)) H locs) (hdg : decode cc pc = .ok (.putfield 50, 3)) (kk : ∀ (H1 : Heap) (locs1 : List Loc), wX D (sdT cs) A s (sdW h cs (dp, bc, v, di, us, de, lo, ke, va)) H1 locs1 → W p l e R s m args below meth c H1 locs1 cells slots Q (F0 m (pc + 3) ls rest)) : W p l e R s m args below meth c H locs cells slots Q (F0 m pc ls (.int (nI v) :: .ref (h 0) :: rest)) := va_put (D := D) (ci := 0) (v := .int (nI v)) (ty := .int) (C := RX0) (T := TX0) (N := 9) F.1 F.2.1 F.2.2.2.2 in_X0 tyX0 tyX0_ok nmX0 F.2.2.2.1 hX.1 hX.2.1 hX.2.2.1 hX.2.2.2.1 0 rfl rfl 8 (by decide) (F.2.2.2.2 _ q31) (fun _ h9 => h9) rfl (by decide +kernel) rfl rfl (Nat.le_of_ble_eq_true rfl) hdg (fun H1 locs1 hP hD hS => kk H1 locs1 ⟨hX.1, hP, hD, hS, hX.2.2.2.2⟩)
theorem g_md_T (F : CallFix p m c cc nL s args lw_all RX1) (hX : wX D (mdT cs) A s (mdW h cs (T, V, C)) H locs) (hdg : decode cc pc = .ok (.getfield 7, 3)) (kk : W p l e R s m args below meth c H locs cells slots Q (F0 m (pc + 3) ls (.ref (h 1) :: rest))) : W p l e R s m args below meth c H locs cells slots Q (F0 m pc ls (.ref (h 0) :: rest)) := va_get (D := D) (ci := 1) (v := .ref (h 1)) (C := RX1) (T := TX1) (N := 3) F.1 F.2.1 F.2.2.2.2 in_X1 F.2.2.2.1 hX.1 hX.2.1 0 rfl rfl 0 (by decide) (F.2.2.2.2 _ q155) (fun _ h9 => h9) rfl hdg kk
theorem g_md_V (F : CallFix p m c cc nL s args lw_all RX1) (hX : wX D (mdT cs) A s (mdW h cs (T, V, C)) H locs) (hdg : decode cc pc = .ok (.getfield 13, 3)) (kk : W p l e R s m args below meth c H locs cells slots Q (F0 m (pc + 3) ls (.ref (h 2) :: rest))) : W p l e R s m args below meth c H locs cells slots Q (F0 m pc ls (.ref (h 0) :: rest)) := va_get (D := D) (ci := 1) (v := .ref (h 2)) (C := RX1) (T := TX1) (N := 3) F.1 F.2.1 F.2.2.2.2 in_X1 F.2.2.2.1 hX.1 hX.2.1 0 rfl rfl 1 (by decide) (F.2.2.2.2 _ q156) (fun _ h9 => h9) rfl hdg kk
theorem g_md_C (F : CallFix p m c cc nL s args lw_all RX1) (hX : wX D (mdT cs) A s (mdW h cs (T, V, C)) H locs) (hdg : decode cc pc = .ok (.getfield 17, 3)) (kk : W p l e R s m args below meth c H locs cells slots Q (F0 m (pc + 3) ls (.ref (h 3) :: rest))) : W p l e R s m args below meth c H locs cells slots Q (F0 m pc ls (.ref (h 0) :: rest)) := va_get (D := D) (ci := 1) (v := .ref (h 3)) (C := RX1) (T := TX1) (N := 3) F.1 F.2.1 F.2.2.2.2 in_X1 F.2.2.2.1 hX.1 hX.2.1 0 rfl rfl 2 (by decide) (F.2.2.2.2 _ q157) (fun _ h9 => h9) rfl hdg kk
theorem ld_sd_di {k : Nat} (F : CallFix p m c cc nL s args lw_all RX0) (hX : wX D (sdT cs) A s (sdW h cs (dp, bc, kc, di, us, de, lo, ke, va)) H locs) (hk : k < 64) (hdg : decode cc pc = .ok (.baload, 1)) (kk : W p l e R s m args below meth c H locs cells slots Q (F0 m (pc + 1) ls (.int (nI (di k)) :: rest))) : W p l e R s m args below meth c H locs cells slots Q (F0 m pc ls (.int (nI k) :: .ref (h 1) :: rest)) := nv_bald F hX 1 0 rfl rfl (by decide) hk hdg kk
theorem st_sd_di {k : Nat} {v : Nat} (F : CallFix p m c cc nL s args lw_all RX0) (hX : wX D (sdT cs) A s (sdW h cs (dp, bc, kc, di, us, de, lo, ke, va)) H locs) (hk : k < 64) (hv : v < 128) (hdg : decode cc pc = .ok (.bastore, 1)) (kk : ∀ (H1 : Heap) (locs1 : List Loc), wX D (sdT cs) A s (sdW h cs (dp, bc, kc, va_up di k v, us, de, lo, ke, va)) H1 locs1 → W p l e R s m args below meth c H1 locs1 cells slots Q (F0 m (pc + 1) ls rest)) : W p l e R s m args below meth c H locs cells slots Q (F0 m pc ls (.int (nI v) :: .int (nI k) :: .ref (h 1) :: rest)) := nv_bast F hX 1 0 rfl rfl (by decide) hk hv hdg (fun H1 locs1 hX1 => kk H1 locs1 hX1)
theorem ld_sd_us {k : Nat} (F : CallFix p m c cc nL s args lw_all RX0) (hX : wX D (sdT cs) A s (sdW h cs (dp, bc, kc, di, us, de, lo, ke, va)) H locs) (hk : k < 65) (hdg : decode cc pc = .ok (.baload, 1)) (kk : W p l e R s m args below meth c H locs cells slots Q (F0 m (pc + 1) ls (.int (nI (us k).toNat) :: rest))) : W p l e R s m args below meth c H locs cells slots Q (F0 m pc ls (.int (nI k) :: .ref (h 2) :: rest)) := nv_zald F hX 2 1 rfl rfl (by decide) hk hdg kk
theorem st_sd_us {k : Nat} {v : Bool} (F : CallFix p m c cc nL s args lw_all RX0) (hX : wX D (sdT cs) A s (sdW h cs (dp, bc, kc, di, us, de, lo, ke, va)) H locs) (hk : k < 65) (hdg : decode cc pc = .ok (.bastore, 1)) (kk : ∀ (H1 : Heap) (locs1 : List Loc), wX D (sdT cs) A s (sdW h cs (dp, bc, kc, di, va_up us k v, de, lo, ke, va)) H1 locs1 → W p l e R s m args below meth c H1 locs1 cells slots Q (F0 m (pc + 1) ls rest)) : W p l e R s m args below meth c H locs cells slots Q (F0 m pc ls (.int (nI v.toNat) :: .int (nI k) :: .ref (h 2) :: rest)) := nv_zast F hX 2 1 rfl rfl (by decide) hk hdg (fun H1 locs1 hX1 => kk H1 locs1 hX1)
theorem ld_sd_de {k : Nat} (F : CallFix p m c cc nL s args lw_all RX0) (hX : wX D (sdT cs) A s (sdW h cs (dp, bc, kc, di, us, de, lo, ke, va)) H locs) (hk : k < 65) (hdg : decode cc pc = .ok (.baload, 1)) (kk : W p l e R s m args below meth c H locs cells slots Q (F0 m (pc + 1) ls (.int (nI (de k)) :: rest))) : W p l e R s m args below meth c H locs cells slots Q (F0 m pc ls (.int (nI k) :: .ref (h 3) :: rest)) := nv_bald F hX 3 2 rfl rfl (by decide) hk hdg kk
theorem st_sd_de {k : Nat} {v : Nat} (F : CallFix p m c cc nL s args lw_all RX0) (hX : wX D (sdT cs) A s (sdW h cs (dp, bc, kc, di, us, de, lo, ke, va)) H locs) (hk : k < 65) (hv : v < 128) (hdg : decode cc pc = .ok (.bastore, 1)) (kk : ∀ (H1 : Heap) (locs1 : List Loc), wX D (sdT cs) A s (sdW h cs (dp, bc, kc, di, us, va_up de k v, lo, ke, va)) H1 locs1 → W p l e R s m args below meth c H1 locs1 cells slots Q (F0 m (pc + 1) ls rest)) : W p l e R s m args below meth c H locs cells slots Q (F0 m pc ls (.int (nI v) :: .int (nI k) :: .ref (h 3) :: rest)) := nv_bast F hX 3 2 rfl rfl (by decide) hk hv hdg (fun H1 locs1 hX1 => kk H1 locs1 hX1)
theorem ld_sd_lo {k : Nat} (F : CallFix p m c cc nL s args lw_all RX0) (hX : wX D (sdT cs) A s (sdW h cs (dp, bc, kc, di, us, de, lo, ke, va)) H locs) (hk : k < 65) (hdg : decode cc pc = .ok (.baload, 1)) (kk : W p l e R s m args below meth c H locs cells slots Q (F0 m (pc + 1) ls (.int (nI (lo k)) :: rest))) : W p l e R s m args below meth c H locs cells slots Q (F0 m pc ls (.int (nI k) :: .ref (h 4) :: rest)) := nv_bald F hX 4 3 rfl rfl (by decide) hk hdg kk
theorem st_sd_lo {k : Nat} {v : Nat} (F : CallFix p m c cc nL s args lw_all RX0) (hX : wX D (sdT cs) A s (sdW h cs (dp, bc, kc, di, us, de, lo, ke, va)) H locs) (hk : k < 65) (hv : v < 128) (hdg : decode cc pc = .ok (.bastore, 1)) (kk : ∀ (H1 : Heap) (locs1 : List Loc), wX D (sdT cs) A s (sdW h cs (dp, bc, kc, di, us, de, va_up lo k v, ke, va)) H1 locs1 → W p l e R s m args below meth c H1 locs1 cells slots Q (F0 m (pc + 1) ls rest)) : W p l e R s m args below meth c H locs cells slots Q (F0 m pc ls (.int (nI v) :: .int (nI k) :: .ref (h 4) :: rest)) := nv_bast F hX 4 3 rfl rfl (by decide) hk hv hdg (fun H1 locs1 hX1 => kk H1 locs1 hX1)
theorem ld_sd_ke {k : Nat} (F : CallFix p m c cc nL s args lw_all RX0) (hX : wX D (sdT cs) A s (sdW h cs (dp, bc, kc, di, us, de, lo, ke, va)) H locs) (hk : k < 325) (hdg : decode cc pc = .ok (.saload, 1)) (kk : W p l e R s m args below meth c H locs cells slots Q (F0 m (pc + 1) ls (.int (nI (ke k)) :: rest))) : W p l e R s m args below meth c H locs cells slots Q (F0 m pc ls (.int (nI k) :: .ref (h 5) :: rest)) := nv_sald F hX 5 4 rfl rfl (by decide) hk hdg kk
theorem st_sd_ke {k : Nat} {v : Nat} (F : CallFix p m c cc nL s args lw_all RX0) (hX : wX D (sdT cs) A s (sdW h cs (dp, bc, kc, di, us, de, lo, ke, va)) H locs) (hk : k < 325) (hv : v < 256) (hdg : decode cc pc = .ok (.sastore, 1)) (kk : ∀ (H1 : Heap) (locs1 : List Loc), wX D (sdT cs) A s (sdW h cs (dp, bc, kc, di, us, de, lo, va_up ke k v, va)) H1 locs1 → W p l e R s m args below meth c H1 locs1 cells slots Q (F0 m (pc + 1) ls rest)) : W p l e R s m args below meth c H locs cells slots Q (F0 m pc ls (.int (nI v) :: .int (nI k) :: .ref (h 5) :: rest)) := nv_sast F hX 5 4 rfl rfl (by decide) hk hv hdg (fun H1 locs1 hX1 => kk H1 locs1 hX1)
theorem ld_sd_va {k : Nat} (F : CallFix p m c cc nL s args lw_all RX0) (hX : wX D (sdT cs) A s (sdW h cs (dp, bc, kc, di, us, de, lo, ke, va)) H locs) (hk : k < 325) (hdg : decode cc pc = .ok (.iaload, 1)) (kk : W p l e R s m args below meth c H locs cells slots Q (F0 m (pc + 1) ls (.int (va k) :: rest))) : W p l e R s m args below meth c H locs cells slots Q (F0 m pc ls (.int (nI k) :: .ref (h 6) :: rest)) := nv_iald F hX 6 5 rfl rfl (by decide) hk hdg kk
theorem st_sd_va {k : Nat} {v : Int32} (F : CallFix p m c cc nL s args lw_all RX0) (hX : wX D (sdT cs) A s (sdW h cs (dp, bc, kc, di, us, de, lo, ke, va)) H locs) (hk : k < 325) (hdg : decode cc pc = .ok (.iastore, 1)) (kk : ∀ (H1 : Heap) (locs1 : List Loc), wX D (sdT cs) A s (sdW h cs (dp, bc, kc, di, us, de, lo, ke, va_up va k v)) H1 locs1 → W p l e R s m args below meth c H1 locs1 cells slots Q (F0 m (pc + 1) ls rest)) : W p l e R s m args below meth c H locs cells slots Q (F0 m pc ls (.int v :: .int (nI k) :: .ref (h 6) :: rest)) := nv_iast F hX 6 5 rfl rfl (by decide) hk hdg (fun H1 locs1 hX1 => kk H1 locs1 hX1)
theorem ld_md_T {k : Nat} (F : CallFix p m c cc nL s args lw_all RX1) (hX : wX D (mdT cs) A s (mdW h cs (T, V, C)) H locs) (hk : k < 256) (hdg : decode cc pc = .ok (.baload, 1)) (kk : W p l e R s m args below meth c H locs cells slots Q (F0 m (pc + 1) ls (.int (nI (T k).toNat) :: rest))) : W p l e R s m args below meth c H locs cells slots Q (F0 m pc ls (.int (nI k) :: .ref (h 1) :: rest)) := nv_zald F hX 1 0 rfl rfl (by decide) hk hdg kk
theorem st_md_T {k : Nat} {v : Bool} (F : CallFix p m c cc nL s args lw_all RX1) (hX : wX D (mdT cs) A s (mdW h cs (T, V, C)) H locs) (hk : k < 256) (hdg : decode cc pc = .ok (.bastore, 1)) (kk : ∀ (H1 : Heap) (locs1 : List Loc), wX D (mdT cs) A s (mdW h cs (va_up T k v, V, C)) H1 locs1 → W p l e R s m args below meth c H1 locs1 cells slots Q (F0 m (pc + 1) ls rest)) : W p l e R s m args below meth c H locs cells slots Q (F0 m pc ls (.int (nI v.toNat) :: .int (nI k) :: .ref (h 1) :: rest)) := nv_zast F hX 1 0 rfl rfl (by decide) hk hdg (fun H1 locs1 hX1 => kk H1 locs1 hX1)
theorem ld_md_V {k : Nat} (F : CallFix p m c cc nL s args lw_all RX1) (hX : wX D (mdT cs) A s (mdW h cs (T, V, C)) H locs) (hk : k < 256) (hdg : decode cc pc = .ok (.iaload, 1)) (kk : W p l e R s m args below meth c H locs cells slots Q (F0 m (pc + 1) ls (.int (V k) :: rest))) : W p l e R s m args below meth c H locs cells slots Q (F0 m pc ls (.int (nI k) :: .ref (h 2) :: rest)) := nv_iald F hX 2 1 rfl rfl (by decide) hk hdg kk
theorem st_md_V {k : Nat} {v : Int32} (F : CallFix p m c cc nL s args lw_all RX1) (hX : wX D (mdT cs) A s (mdW h cs (T, V, C)) H locs) (hk : k < 256) (hdg : decode cc pc = .ok (.iastore, 1)) (kk : ∀ (H1 : Heap) (locs1 : List Loc), wX D (mdT cs) A s (mdW h cs (T, va_up V k v, C)) H1 locs1 → W p l e R s m args below meth c H1 locs1 cells slots Q (F0 m (pc + 1) ls rest)) : W p l e R s m args below meth c H locs cells slots Q (F0 m pc ls (.int v :: .int (nI k) :: .ref (h 2) :: rest)) := nv_iast F hX 2 1 rfl rfl (by decide) hk hdg (fun H1 locs1 hX1 => kk H1 locs1 hX1)
theorem ld_md_C {k : Nat} (F : CallFix p m c cc nL s args lw_all RX1) (hX : wX D (mdT cs) A s (mdW h cs (T, V, C)) H locs) (hk : k < 511) (hdg : decode cc pc = .ok (.iaload, 1)) (kk : W p l e R s m args below meth c H locs cells slots Q (F0 m (pc + 1) ls (.int (nI (C k)) :: rest))) : W p l e R s m args below meth c H locs cells slots Q (F0 m pc ls (.int (nI k) :: .ref (h 3) :: rest)) := nv_nald F hX 3 2 rfl rfl (by decide) hk hdg kk
theorem st_md_C {k : Nat} {v : Nat} (F : CallFix p m c cc nL s args lw_all RX1) (hX : wX D (mdT cs) A s (mdW h cs (T, V, C)) H locs) (hk : k < 511) (hdg : decode cc pc = .ok (.iastore, 1)) (kk : ∀ (H1 : Heap) (locs1 : List Loc), wX D (mdT cs) A s (mdW h cs (T, V, va_up C k v)) H1 locs1 → W p l e R s m args below meth c H1 locs1 cells slots Q (F0 m (pc + 1) ls rest)) : W p l e R s m args below meth c H locs cells slots Q (F0 m pc ls (.int (nI v) :: .int (nI k) :: .ref (h 3) :: rest)) := nv_nast F hX 3 2 rfl rfl (by decide) hk hdg (fun H1 locs1 hX1 => kk H1 locs1 hX1)
end WORLDS
end
section
/-! walks of SplitDirectoryModel: leaves -/
def cOK (T : Nat → Bool) (C : Nat → Nat) : Prop := ∀ d, d ≤ 8 → ∀ k, C (2 ^ d - 1 + k % 2 ^ d) = ct T k d
theorem pw8 : ∀ d, d ≤ 8 → 2 ^ d ≤ 256 := fun d h => Nat.pow_le_pow_right (n := 2) (j := 8) (by omega) h
set_option maxHeartbeats 4000000 in
set_option maxRecDepth 100000 in
/-- ending(k, d) -/
theorem m_X1_ending (l : Launch) (D : va_G) (h : Nat → Nat) (cs : Nat → ClassId) {T : Nat → Bool} {V : Nat → Int32} {C : Nat → Nat} {k d : Nat} (hk : k < 2 ^ 31) (hd : d ≤ 8) : cI l yX1_ending cX1_ending 3 (some .int) ({ frames := 0, cells := 0, slots := 0, locals := 0 } : Room) D (mdT cs) (mdW h cs (T, V, C)) [.ref (h 0), .int (nI k), .int (nI d)] (mdW h cs) (fun (r : Int32) (u : MD) => u = (T, V, C) ∧ r = nI (2 ^ d - 1 + k % 2 ^ d)) := by
  refine c_int (own := RX1) (by decide) rfl (Nat.le_of_ble_eq_true rfl) ?_
  intro p e s m below meth c A Q ls R args hRm F hend hX hl
  have hl : lv_has ls 3 [(0, .ref (h 0)), (1, .int (nI k)), (2, .int (nI d))] := hl
  have hp := pw8 d hd
  have hm := Nat.mod_lt k (show 0 < 2 ^ d from Nat.pow_pos (by omega))
  refine lv_iconst (v := nI 1) F.1 F.2.1 dX1_ending_0 (by decide +kernel) ?_
  refine lv_iload_n F.1 F.2.1 dX1_ending_1 rfl (lv_at hl 2 rfl) ?_
  refine nv_shl1 F (by omega) dX1_ending_2 ?_
  refine lv_iconst (v := nI 1) F.1 F.2.1 dX1_ending_3 (by decide +kernel) ?_
  refine nv_isub F Nat.one_le_two_pow dX1_ending_4 ?_
  refine lv_iload_n F.1 F.2.1 dX1_ending_5 rfl (lv_at hl 1 rfl) ?_
  refine lv_iconst (v := nI 1) F.1 F.2.1 dX1_ending_6 (by decide +kernel) ?_
  refine lv_iload_n F.1 F.2.1 dX1_ending_7 rfl (lv_at hl 2 rfl) ?_
  refine nv_shl1 F (by omega) dX1_ending_8 ?_
  refine lv_iconst (v := nI 1) F.1 F.2.1 dX1_ending_9 (by decide +kernel) ?_
  refine nv_isub F Nat.one_le_two_pow dX1_ending_10 ?_
  refine nv_mask F (by omega) (by omega) dX1_ending_11 ?_
  refine nv_iadd F dX1_ending_12 ?_
  exact hend _ _ _ _ _ _ ⟨rfl, rfl⟩ hX dX1_ending_13
set_option maxRecDepth 100000 in
theorem k_X1_ending {p : Program} {l : Launch} {e : Env} {R : Room} {s : State} {m : MethodId} {args : Array Value} {below : List Frame} {meth : Method} {c : Code} {H : Heap} {locs : List Loc} {cells slots : Nat} {Q : State → Prop} {cc : ByteArray} {pc : Nat} {ls : Array Slot} {rest : List Value} {nL : Nat} {D : va_G} {A : Nat → Prop} {h : Nat → Nat} {cs : Nat → ClassId} {T : Nat → Bool} {V : Nat → Int32} {C : Nat → Nat} {k d : Nat} (F : CallFix p m c cc nL s args lw_all RX1) (hk : k < 2 ^ 31) (hd : d ≤ 8) (hX : wX D (mdT cs) A s (mdW h cs (T, V, C)) H locs) (hR : 1 ≤ R.frames ∧ 22 ≤ R.locals) (hcs : cells ≤ R.cells ∧ slots ≤ R.slots) (hls : ls.size = nL) (hrest : (rest.map fun v => v.category).sum ≤ 8) (hdg : decode cc pc = .ok (.invokevirtual 20, 3)) (kk : ∀ (H1 : Heap) (locs1 : List Loc), wX D (mdT cs) A s (mdW h cs (T, V, C)) H1 locs1 → W p l e R s m args below meth c H1 locs1 cells slots Q (F0 m (pc + 3) ls (.int (nI (2 ^ d - 1 + k % 2 ^ d)) :: rest))) : W p l e R s m args below meth c H locs cells slots Q (F0 m pc ls (.int (nI d) :: .int (nI k) :: .ref (h 0) :: rest)) :=
  c_calli (C := RX1) (As := [.int (nI k), .int (nI d)]) (rest := rest) F (m_X1_ending l D h cs hk hd) q189 q191 qs10 q14 q192 (n := 2) rfl (by decide +kernel) ⟨hR.1, by have := hR.2; exact this⟩ rfl rfl hX (ci := 1) rfl rfl rfl rfl hls hrest hcs hdg (fun r u H1 locs1 hp hX1 => by obtain ⟨rfl, rfl⟩ := hp; exact kk H1 locs1 hX1)
set_option maxHeartbeats 4000000 in
set_option maxRecDepth 100000 in
/-- key(k) -/
theorem m_X1_key (l : Launch) (D : va_G) (h : Nat → Nat) (cs : Nat → ClassId) {T : Nat → Bool} {V : Nat → Int32} {C : Nat → Nat} {k : Int32}  : cI l yX1_key cX1_key 2 (some .boolean) ({ frames := 0, cells := 0, slots := 0, locals := 0 } : Room) D (mdT cs) (mdW h cs (T, V, C)) [.ref (h 0), .int k] (mdW h cs) (fun (r : Int32) (u : MD) => ∃ z : Bool, r = nI z.toNat ∧ u = (T, V, C) ∧ z = kB k) := by
  refine c_bool (post := fun (z : Bool) (u : MD) => u = (T, V, C) ∧ z = kB k) (own := RX1) (by decide) rfl (Nat.le_of_ble_eq_true rfl) ?_
  intro p e s m below meth c A Q ls R args hRm F hend hX hl
  have hl : lv_has ls 2 [(0, .ref (h 0)), (1, .int k)] := hl
  refine lv_iload_n F.1 F.2.1 dX1_key_0 rfl (lv_at hl 1 rfl) ?_
  refine lv_if_lt (tgt := 15) F.1 F.2.1 dX1_key_1 (by decide) (fun c1 => ?_) (fun c1 => ?_)
  · have hz : (false : Bool) = kB k := by
      unfold kB
      have h1 : ¬ ((0 : Int32) ≤ k ∧ k < 256) := by grind
      by_cases h2 : (0 : Int32) ≤ k
      · have h3 : ¬ k < 256 := fun q => h1 ⟨h2, q⟩
        simp [h3]
      · simp [h2]
    refine lv_iconst (v := nI (false).toNat) F.1 F.2.1 dX1_key_15 (by decide +kernel) ?_
    exact hend _ _ false _ _ _ ⟨rfl, hz⟩ hX dX1_key_16
  · refine lv_iload_n F.1 F.2.1 dX1_key_4 rfl (lv_at hl 1 rfl) ?_
    refine lv_sipush (v := 255) F.1 F.2.1 dX1_key_5 (by decide +kernel) ?_
    refine lv_icmp_gt (tgt := 15) F.1 F.2.1 dX1_key_8 (by decide) (fun c8 => ?_) (fun c8 => ?_)
    · have hz : (false : Bool) = kB k := by
        unfold kB
        have h1 : ¬ ((0 : Int32) ≤ k ∧ k < 256) := by grind
        by_cases h2 : (0 : Int32) ≤ k
        · have h3 : ¬ k < 256 := fun q => h1 ⟨h2, q⟩
          simp [h3]
        · simp [h2]
      refine lv_iconst (v := nI (false).toNat) F.1 F.2.1 dX1_key_15 (by decide +kernel) ?_
      exact hend _ _ false _ _ _ ⟨rfl, hz⟩ hX dX1_key_16
    · have hz : (true : Bool) = kB k := by
        unfold kB
        have h1 : (0 : Int32) ≤ k := by grind
        have h2 : k < 256 := by grind
        simp [h1, h2]
      refine lv_iconst (v := nI (true).toNat) F.1 F.2.1 dX1_key_11 (by decide +kernel) ?_
      refine lv_goto (tgt := 16) F.1 F.2.1 dX1_key_12 (by decide) ?_
      exact hend _ _ true _ _ _ ⟨rfl, hz⟩ hX dX1_key_16
set_option maxRecDepth 100000 in
theorem k_X1_key {p : Program} {l : Launch} {e : Env} {R : Room} {s : State} {m : MethodId} {args : Array Value} {below : List Frame} {meth : Method} {c : Code} {H : Heap} {locs : List Loc} {cells slots : Nat} {Q : State → Prop} {cc : ByteArray} {pc : Nat} {ls : Array Slot} {rest : List Value} {nL : Nat} {D : va_G} {A : Nat → Prop} {h : Nat → Nat} {cs : Nat → ClassId} {T : Nat → Bool} {V : Nat → Int32} {C : Nat → Nat} {k : Int32} (F : CallFix p m c cc nL s args lw_all RX1)  (hX : wX D (mdT cs) A s (mdW h cs (T, V, C)) H locs) (hR : 1 ≤ R.frames ∧ 21 ≤ R.locals) (hcs : cells ≤ R.cells ∧ slots ≤ R.slots) (hls : ls.size = nL) (hrest : (rest.map fun v => v.category).sum ≤ 8) (hdg : decode cc pc = .ok (.invokevirtual 24, 3)) (kk : ∀ (H1 : Heap) (locs1 : List Loc), wX D (mdT cs) A s (mdW h cs (T, V, C)) H1 locs1 → W p l e R s m args below meth c H1 locs1 cells slots Q (F0 m (pc + 3) ls (.int ((nI (kB k).toNat)) :: rest))) : W p l e R s m args below meth c H locs cells slots Q (F0 m pc ls (.int k :: .ref (h 0) :: rest)) :=
  c_calli (C := RX1) (As := [.int k]) (rest := rest) F (m_X1_key l D h cs ) q169 q171 qs8 q14 q172 (n := 1) rfl (by decide +kernel) ⟨hR.1, by have := hR.2; exact this⟩ rfl rfl hX (ci := 1) rfl rfl rfl rfl hls hrest hcs hdg (fun r u H1 locs1 hp hX1 => by obtain ⟨z, rfl, rfl, rfl⟩ := hp; exact kk H1 locs1 hX1)
end
section
/-! walks of SplitDirectoryModel: counting -/
theorem ix_lt {d r : Nat} (hd : d ≤ 8) : 2 ^ d - 1 + r % 2 ^ d < 511 := by
  have h1 := pw8 d hd
  have h2 := Nat.mod_lt r (show 0 < 2 ^ d from Nat.pow_pos (by omega))
  omega
theorem ix_inj {d d' r r' : Nat} (h : 2 ^ d - 1 + r % 2 ^ d = 2 ^ d' - 1 + r' % 2 ^ d') : d = d' ∧ r % 2 ^ d = r' % 2 ^ d' := by
  have h1 : 0 < 2 ^ d := Nat.pow_pos (by omega)
  have h2 : 0 < 2 ^ d' := Nat.pow_pos (by omega)
  have h3 := Nat.mod_lt r h1
  have h4 := Nat.mod_lt r' h2
  rcases Nat.lt_trichotomy d d' with q | q | q
  · have h5 := Nat.pow_le_pow_right (n := 2) (by omega) (show d + 1 ≤ d' from q)
    rw [Nat.pow_succ] at h5
    omega
  · subst q
    exact ⟨rfl, by omega⟩
  · have h5 := Nat.pow_le_pow_right (n := 2) (by omega) (show d' + 1 ≤ d from q)
    rw [Nat.pow_succ] at h5
    omega
def cP (T : Nat → Bool) (C : Nat → Nat) (k d : Nat) : Prop := ∀ d', d' ≤ 8 → ∀ r, C (2 ^ d' - 1 + r % 2 ^ d') = cN (fun j => T j && (j % 2 ^ d' == r % 2 ^ d')) (if d' < d then k + 1 else k)
theorem cP_0 {T : Nat → Bool} {C : Nat → Nat} (h : ∀ j, j < 511 → C j = 0) : cP T C 0 0 := by
  intro d' hd r
  rw [if_neg (by omega), h _ (ix_lt hd)]
  rfl
theorem cP_step {T : Nat → Bool} {C : Nat → Nat} {k d : Nat} (h : cP T C k d) (hT : T k = true) : cP T (va_up C (2 ^ d - 1 + k % 2 ^ d) (C (2 ^ d - 1 + k % 2 ^ d) + 1)) k (d + 1) := by
  intro d' hd r
  by_cases q : 2 ^ d' - 1 + r % 2 ^ d' = 2 ^ d - 1 + k % 2 ^ d
  · obtain ⟨e1, e2⟩ := ix_inj q
    subst e1
    rw [q, va_up_self, h d' hd k, if_neg (by omega), if_pos (by omega)]
    show _ = cN (fun j => T j && (j % 2 ^ d' == r % 2 ^ d')) k + (T k && (k % 2 ^ d' == r % 2 ^ d')).toNat
    rw [hT, e2]
    simp
  · rw [va_up_ne _ _ q, h d' hd r]
    by_cases q2 : d' = d
    · subst q2
      rw [if_neg (by omega), if_pos (by omega)]
      show _ = cN (fun j => T j && (j % 2 ^ d' == r % 2 ^ d')) k + (T k && (k % 2 ^ d' == r % 2 ^ d')).toNat
      have : ¬ k % 2 ^ d' = r % 2 ^ d' := fun z => q (by rw [z])
      simp [this]
    · by_cases q3 : d' < d
      · rw [if_pos q3, if_pos (by omega)]
      · rw [if_neg q3, if_neg (by omega)]
theorem cP_next {T : Nat → Bool} {C : Nat → Nat} {k d : Nat} (h : cP T C k d) (hx : d = 9 ∨ T k = false) : cP T C (k + 1) 0 := by
  intro d' hd r
  rw [h d' hd r, if_neg (by omega : ¬ d' < 0)]
  by_cases q : d' < d
  · rw [if_pos q]
  · rw [if_neg q]
    show _ = cN (fun j => T j && (j % 2 ^ d' == r % 2 ^ d')) k + (T k && (k % 2 ^ d' == r % 2 ^ d')).toNat
    rcases hx with z | z
    · omega
    · rw [z]; simp
theorem cP_end {T : Nat → Bool} {C : Nat → Nat} (h : cP T C 256 0) : cOK T C := by
  intro d hd k
  rw [h d hd k, if_neg (by omega)]
  rfl
theorem ct_lt (T : Nat → Bool) (k d : Nat) : ct T k d < 257 := Nat.lt_succ_of_le (cN_le _ _)
set_option maxHeartbeats 4000000 in
set_option maxRecDepth 100000 in
/-- count(): the counts of all endings -/
theorem m_X1_count (l : Launch) (D : va_G) (h : Nat → Nat) (cs : Nat → ClassId) {T : Nat → Bool} {V : Nat → Int32} {C : Nat → Nat}   : cV l yX1_count cX1_count 4 ({ frames := 1, cells := 0, slots := 0, locals := 22 } : Room) D (mdT cs) (mdW h cs (T, V, C)) [.ref (h 0)] (mdW h cs) (fun (u : MD) => ∃ C2, u = (T, V, C2) ∧ cOK T C2) := by
  refine c_void (own := RX1) (by decide) rfl (Nat.le_of_ble_eq_true rfl) ?_
  intro p e s m below meth c A Q ls R args hRm F hend hX hl
  have hl : lv_has ls 4 [(0, .ref (h 0))] := hl
  have loop2 : ∀ (n k : Nat) (C : Nat → Nat) (H : Heap) (locs : List Loc) (ls : Array Slot), 257 ≤ k + n → k ≤ 256 → cP T C k 0 → wX D (mdT cs) A s (mdW h cs (T, V, C)) H locs → lv_has ls 4 [(0, .ref (h 0)), (1, .int (nI k))] → W p l e R s m args below meth c H locs 0 0 Q (F0 m 24 ls []) := by
    intro n
    induction n with
    | zero => intro k C H locs ls h1 h2; omega
    | succ n ih =>
      intro k C H locs ls hn hk hI hX hl
      have loop3 : ∀ (n d : Nat) (C : Nat → Nat) (H : Heap) (locs : List Loc) (ls : Array Slot), 10 ≤ d + n → d ≤ 9 → k < 256 → cP T C k d → wX D (mdT cs) A s (mdW h cs (T, V, C)) H locs → lv_has ls 4 [(0, .ref (h 0)), (1, .int (nI k)), (2, .int (nI d))] → W p l e R s m args below meth c H locs 0 0 Q (F0 m 33 ls []) := by
        intro n
        induction n with
        | zero => intro d C H locs ls h1 h2; omega
        | succ n ih3 =>
          intro d C H locs ls hn3 hd hk3 hI hX hl
          refine lv_iload_n F.1 F.2.1 dX1_count_33 rfl (lv_at hl 2 rfl) ?_
          refine lv_bipush (v := nI 8) F.1 F.2.1 dX1_count_34 (by decide +kernel) ?_
          refine nv_icmp_gt (tgt := 71) F dX1_count_36 (by decide) (by omega) (by omega) (fun c36 => ?_) (fun c36 => ?_)
          · have hex : d = 9 ∨ T k = false := Or.inl (by omega)
            refine nv_iinc (lv' := [(1, .int _), (0, .ref _), (2, .int _)]) F dX1_count_71 hl (k := 1) rfl (by decide) rfl (fun ls hl => ?_)
            refine lv_goto (tgt := 24) F.1 F.2.1 dX1_count_74 (by decide) ?_
            exact ih (k + 1) _ _ _ _ (by omega) (by omega) (cP_next hI hex) hX (lv_sub hl [1, 0] rfl)
          · refine lv_aload_n F.1 F.2.1 dX1_count_39 rfl (lv_at hl 0 rfl) ?_
            refine g_md_T F hX dX1_count_40 ?_
            refine lv_iload_n F.1 F.2.1 dX1_count_43 rfl (lv_at hl 1 rfl) ?_
            refine ld_md_T F hX (by omega) dX1_count_44 ?_
            refine nv_ifB_eq (tgt := 71) F dX1_count_45 (by decide) (fun c45 => ?_) (fun c45 => ?_)
            · have hex : d = 9 ∨ T k = false := Or.inr c45
              refine nv_iinc (lv' := [(1, .int _), (0, .ref _), (2, .int _)]) F dX1_count_71 hl (k := 1) rfl (by decide) rfl (fun ls hl => ?_)
              refine lv_goto (tgt := 24) F.1 F.2.1 dX1_count_74 (by decide) ?_
              exact ih (k + 1) _ _ _ _ (by omega) (by omega) (cP_next hI hex) hX (lv_sub hl [1, 0] rfl)
            · refine lv_aload_n F.1 F.2.1 dX1_count_48 rfl (lv_at hl 0 rfl) ?_
              refine lv_iload_n F.1 F.2.1 dX1_count_49 rfl (lv_at hl 1 rfl) ?_
              refine lv_iload_n F.1 F.2.1 dX1_count_50 rfl (lv_at hl 2 rfl) ?_
              refine k_X1_ending F (by omega) (by omega) hX ⟨by rw [hRm]; decide, by rw [hRm]; decide⟩ ⟨Nat.zero_le _, Nat.zero_le _⟩ hl.1 (Nat.le_of_ble_eq_true rfl) dX1_count_51 (fun H locs hX => ?_)
              refine lv_istore_n (lv' := [(3, .int _), (0, .ref _), (1, .int _), (2, .int _)]) F.1 F.2.1 dX1_count_54 rfl hl (by decide) rfl (fun ls hl => ?_)
              refine lv_aload_n F.1 F.2.1 dX1_count_55 rfl (lv_at hl 1 rfl) ?_
              refine g_md_C F hX dX1_count_56 ?_
              refine lv_iload_n F.1 F.2.1 dX1_count_59 rfl (lv_at hl 0 rfl) ?_
              refine lv_dup2_11 F.1 F.2.1 dX1_count_60 rfl rfl ?_
              refine ld_md_C F hX (ix_lt (by omega)) dX1_count_61 ?_
              refine lv_iconst (v := nI 1) F.1 F.2.1 dX1_count_62 (by decide +kernel) ?_
              refine nv_iadd F dX1_count_63 ?_
              refine st_md_C F hX (ix_lt (by omega)) dX1_count_64 (fun H locs hX => ?_)
              refine nv_iinc (lv' := [(2, .int _), (3, .int _), (0, .ref _), (1, .int _)]) F dX1_count_65 hl (k := 3) rfl (by decide) rfl (fun ls hl => ?_)
              refine lv_goto (tgt := 33) F.1 F.2.1 dX1_count_68 (by decide) ?_
              exact ih3 (d + 1) _ _ _ _ (by omega) (by omega) hk3 (cP_step hI c45) hX (lv_sub hl [2, 3, 0] rfl)
      refine lv_iload_n F.1 F.2.1 dX1_count_24 rfl (lv_at hl 1 rfl) ?_
      refine lv_sipush (v := nI 256) F.1 F.2.1 dX1_count_25 (by decide +kernel) ?_
      refine nv_icmp_ge (tgt := 77) F dX1_count_28 (by decide) (by omega) (by omega) (fun c28 => ?_) (fun c28 => ?_)
      · have hk2 : k = 256 := by omega
        subst hk2
        exact hend _ _ _ _ _ ⟨C, rfl, cP_end hI⟩ hX dX1_count_77
      · refine lv_iconst (v := nI 0) F.1 F.2.1 dX1_count_31 (by decide +kernel) ?_
        refine lv_istore_n (lv' := [(2, .int _), (0, .ref _), (1, .int _)]) F.1 F.2.1 dX1_count_32 rfl hl (by decide) rfl (fun ls hl => ?_)
        exact loop3 10 0 C _ _ _ (by omega) (by omega) c28 hI hX (lv_sub hl [1, 2, 0] rfl)
  have loop1 : ∀ (n i : Nat) (C : Nat → Nat) (H : Heap) (locs : List Loc) (ls : Array Slot), 512 ≤ i + n → i ≤ 511 → (∀ j, j < i → C j = 0) → wX D (mdT cs) A s (mdW h cs (T, V, C)) H locs → lv_has ls 4 [(0, .ref (h 0)), (1, .int (nI i))] → W p l e R s m args below meth c H locs 0 0 Q (F0 m 2 ls []) := by
    intro n
    induction n with
    | zero => intro i C H locs ls h1 h2; omega
    | succ n ih =>
      intro i C H locs ls hn hi hI hX hl
      refine lv_iload_n F.1 F.2.1 dX1_count_2 rfl (lv_at hl 1 rfl) ?_
      refine lv_sipush (v := nI 511) F.1 F.2.1 dX1_count_3 (by decide +kernel) ?_
      refine nv_icmp_ge (tgt := 22) F dX1_count_6 (by decide) (by omega) (by omega) (fun c6 => ?_) (fun c6 => ?_)
      · refine lv_iconst (v := nI 0) F.1 F.2.1 dX1_count_22 (by decide +kernel) ?_
        refine lv_istore_n (lv' := [(1, .int _), (0, .ref _)]) F.1 F.2.1 dX1_count_23 rfl hl (by decide) rfl (fun ls hl => ?_)
        exact loop2 257 0 C _ _ _ (by omega) (by omega) (cP_0 (fun j hj => hI j (by omega))) hX (lv_sub hl [1, 0] rfl)
      · refine lv_aload_n F.1 F.2.1 dX1_count_9 rfl (lv_at hl 0 rfl) ?_
        refine g_md_C F hX dX1_count_10 ?_
        refine lv_iload_n F.1 F.2.1 dX1_count_13 rfl (lv_at hl 1 rfl) ?_
        refine lv_iconst (v := nI 0) F.1 F.2.1 dX1_count_14 (by decide +kernel) ?_
        refine st_md_C F hX (by omega) dX1_count_15 (fun H locs hX => ?_)
        refine nv_iinc (lv' := [(1, .int _), (0, .ref _)]) F dX1_count_16 hl (k := 1) rfl (by decide) rfl (fun ls hl => ?_)
        refine lv_goto (tgt := 2) F.1 F.2.1 dX1_count_19 (by decide) ?_
        refine ih (i + 1) _ _ _ _ (by omega) (by omega) (fun j hj => ?_) hX (lv_sub hl [1, 0] rfl)
        by_cases q : j = i
        · rw [q]
          exact va_up_self _ _ _
        · rw [va_up_ne _ _ q]
          exact hI j (by omega)
  refine lv_iconst (v := nI 0) F.1 F.2.1 dX1_count_0 (by decide +kernel) ?_
  refine lv_istore_n (lv' := [(1, .int _), (0, .ref _)]) F.1 F.2.1 dX1_count_1 rfl hl (by decide) rfl (fun ls hl => ?_)
  exact loop1 512 0 C _ _ _ (by omega) (by omega) (fun j hj => by omega) hX (lv_sub hl [1, 0] rfl)
set_option maxRecDepth 100000 in
theorem k_X1_count {p : Program} {l : Launch} {e : Env} {R : Room} {s : State} {m : MethodId} {args : Array Value} {below : List Frame} {meth : Method} {c : Code} {H : Heap} {locs : List Loc} {cells slots : Nat} {Q : State → Prop} {cc : ByteArray} {pc : Nat} {ls : Array Slot} {rest : List Value} {nL : Nat} {D : va_G} {A : Nat → Prop} {h : Nat → Nat} {cs : Nat → ClassId} {T : Nat → Bool} {V : Nat → Int32} {C : Nat → Nat}  (F : CallFix p m c cc nL s args lw_all RX1)  (hX : wX D (mdT cs) A s (mdW h cs (T, V, C)) H locs) (hR : 2 ≤ R.frames ∧ 45 ≤ R.locals) (hcs : cells ≤ R.cells ∧ slots ≤ R.slots) (hls : ls.size = nL) (hrest : (rest.map fun v => v.category).sum ≤ 8) (hdg : decode cc pc = .ok (.invokevirtual 42, 3)) (kk : ∀ (u : MD) (H1 : Heap) (locs1 : List Loc), (∃ C2, u = (T, V, C2) ∧ cOK T C2) → wX D (mdT cs) A s (mdW h cs u) H1 locs1 → W p l e R s m args below meth c H1 locs1 cells slots Q (F0 m (pc + 3) ls rest)) : W p l e R s m args below meth c H locs cells slots Q (F0 m pc ls (.ref (h 0) :: rest)) :=
  c_callv (C := RX1) (As := []) (rest := rest) F (m_X1_count l D h cs ) q185 q187 qs9 q14 q188 (n := 0) rfl (by decide +kernel) ⟨hR.1, by have := hR.2; exact this⟩ rfl rfl hX (ci := 1) rfl rfl rfl rfl hls hrest hcs hdg (kk)
set_option maxHeartbeats 4000000 in
set_option maxRecDepth 100000 in
/-- isBucket(k, d) -/
theorem m_X1_isBucket (l : Launch) (D : va_G) (h : Nat → Nat) (cs : Nat → ClassId) {T : Nat → Bool} {V : Nat → Int32} {C : Nat → Nat} {k d : Nat} (hk : k < 2 ^ 31) (hd : d ≤ 8) (hC : cOK T C) : cI l yX1_isBucket cX1_isBucket 3 (some .boolean) ({ frames := 1, cells := 0, slots := 0, locals := 22 } : Room) D (mdT cs) (mdW h cs (T, V, C)) [.ref (h 0), .int (nI k), .int (nI d)] (mdW h cs) (fun (r : Int32) (u : MD) => ∃ z : Bool, r = nI z.toNat ∧ u = (T, V, C) ∧ z = iB T k d) := by
  refine c_bool (post := fun (z : Bool) (u : MD) => u = (T, V, C) ∧ z = iB T k d) (own := RX1) (by decide) rfl (Nat.le_of_ble_eq_true rfl) ?_
  intro p e s m below meth c A Q ls R args hRm F hend hX hl
  have hl : lv_has ls 3 [(0, .ref (h 0)), (1, .int (nI k)), (2, .int (nI d))] := hl
  refine lv_aload_n F.1 F.2.1 dX1_isBucket_0 rfl (lv_at hl 0 rfl) ?_
  refine g_md_C F hX dX1_isBucket_1 ?_
  refine lv_aload_n F.1 F.2.1 dX1_isBucket_4 rfl (lv_at hl 0 rfl) ?_
  refine lv_iload_n F.1 F.2.1 dX1_isBucket_5 rfl (lv_at hl 1 rfl) ?_
  refine lv_iload_n F.1 F.2.1 dX1_isBucket_6 rfl (lv_at hl 2 rfl) ?_
  refine k_X1_ending F (by omega) (by omega) hX ⟨by rw [hRm]; decide, by rw [hRm]; decide⟩ ⟨Nat.zero_le _, Nat.zero_le _⟩ hl.1 (Nat.le_of_ble_eq_true rfl) dX1_isBucket_7 (fun H locs hX => ?_)
  refine ld_md_C F hX (ix_lt hd) dX1_isBucket_10 ?_
  rw [hC d hd k]
  have hb1 := ct_lt T k d
  refine lv_iconst (v := nI 4) F.1 F.2.1 dX1_isBucket_11 (by decide +kernel) ?_
  refine nv_icmp_gt (tgt := 40) F dX1_isBucket_12 (by decide) (by omega) (by omega) (fun c12 => ?_) (fun c12 => ?_)
  · have hz : (false : Bool) = iB T k d := by
      unfold iB
      have : ¬ ct T k d ≤ 4 := by omega
      simp [this]
    refine lv_iconst (v := nI (false).toNat) F.1 F.2.1 dX1_isBucket_40 (by decide +kernel) ?_
    exact hend _ _ false _ _ _ ⟨rfl, hz⟩ hX dX1_isBucket_41
  · refine lv_iload_n F.1 F.2.1 dX1_isBucket_15 rfl (lv_at hl 2 rfl) ?_
    refine nv_if_eq (tgt := 36) F dX1_isBucket_16 (by decide) (by omega) (fun c16 => ?_) (fun c16 => ?_)
    · have hz : (true : Bool) = iB T k d := by
        unfold iB
        subst c16
        simp [c12]
      refine lv_iconst (v := nI (true).toNat) F.1 F.2.1 dX1_isBucket_36 (by decide +kernel) ?_
      refine lv_goto (tgt := 41) F.1 F.2.1 dX1_isBucket_37 (by decide) ?_
      exact hend _ _ true _ _ _ ⟨rfl, hz⟩ hX dX1_isBucket_41
    · refine lv_aload_n F.1 F.2.1 dX1_isBucket_19 rfl (lv_at hl 0 rfl) ?_
      refine g_md_C F hX dX1_isBucket_20 ?_
      refine lv_aload_n F.1 F.2.1 dX1_isBucket_23 rfl (lv_at hl 0 rfl) ?_
      refine lv_iload_n F.1 F.2.1 dX1_isBucket_24 rfl (lv_at hl 1 rfl) ?_
      refine lv_iload_n F.1 F.2.1 dX1_isBucket_25 rfl (lv_at hl 2 rfl) ?_
      refine lv_iconst (v := nI 1) F.1 F.2.1 dX1_isBucket_26 (by decide +kernel) ?_
      refine nv_isub F (by omega) dX1_isBucket_27 ?_
      refine k_X1_ending F (by omega) (by omega) hX ⟨by rw [hRm]; decide, by rw [hRm]; decide⟩ ⟨Nat.zero_le _, Nat.zero_le _⟩ hl.1 (Nat.le_of_ble_eq_true rfl) dX1_isBucket_28 (fun H locs hX => ?_)
      refine ld_md_C F hX (ix_lt (by omega)) dX1_isBucket_31 ?_
      rw [hC (d - 1) (by omega) k]
      have hb2 := ct_lt T k (d - 1)
      refine lv_iconst (v := nI 4) F.1 F.2.1 dX1_isBucket_32 (by decide +kernel) ?_
      refine nv_icmp_le (tgt := 40) F dX1_isBucket_33 (by decide) (by omega) (by omega) (fun c33 => ?_) (fun c33 => ?_)
      · have hz : (false : Bool) = iB T k d := by
          unfold iB
          have h1 : ¬ 4 < ct T k (d - 1) := by omega
          simp [h1, c16]
        refine lv_iconst (v := nI (false).toNat) F.1 F.2.1 dX1_isBucket_40 (by decide +kernel) ?_
        exact hend _ _ false _ _ _ ⟨rfl, hz⟩ hX dX1_isBucket_41
      · have hz : (true : Bool) = iB T k d := by
          unfold iB
          simp [c12, c33]
        refine lv_iconst (v := nI (true).toNat) F.1 F.2.1 dX1_isBucket_36 (by decide +kernel) ?_
        refine lv_goto (tgt := 41) F.1 F.2.1 dX1_isBucket_37 (by decide) ?_
        exact hend _ _ true _ _ _ ⟨rfl, hz⟩ hX dX1_isBucket_41
set_option maxRecDepth 100000 in
theorem k_X1_isBucket {p : Program} {l : Launch} {e : Env} {R : Room} {s : State} {m : MethodId} {args : Array Value} {below : List Frame} {meth : Method} {c : Code} {H : Heap} {locs : List Loc} {cells slots : Nat} {Q : State → Prop} {cc : ByteArray} {pc : Nat} {ls : Array Slot} {rest : List Value} {nL : Nat} {D : va_G} {A : Nat → Prop} {h : Nat → Nat} {cs : Nat → ClassId} {T : Nat → Bool} {V : Nat → Int32} {C : Nat → Nat} {k d : Nat} (F : CallFix p m c cc nL s args lw_all RX1) (hk : k < 2 ^ 31) (hd : d ≤ 8) (hC : cOK T C) (hX : wX D (mdT cs) A s (mdW h cs (T, V, C)) H locs) (hR : 2 ≤ R.frames ∧ 44 ≤ R.locals) (hcs : cells ≤ R.cells ∧ slots ≤ R.slots) (hls : ls.size = nL) (hrest : (rest.map fun v => v.category).sum ≤ 8) (hdg : decode cc pc = .ok (.invokevirtual 45, 3)) (kk : ∀ (H1 : Heap) (locs1 : List Loc), wX D (mdT cs) A s (mdW h cs (T, V, C)) H1 locs1 → W p l e R s m args below meth c H1 locs1 cells slots Q (F0 m (pc + 3) ls (.int ((nI (iB T k d).toNat)) :: rest))) : W p l e R s m args below meth c H locs cells slots Q (F0 m pc ls (.int (nI d) :: .int (nI k) :: .ref (h 0) :: rest)) :=
  c_calli (C := RX1) (As := [.int (nI k), .int (nI d)]) (rest := rest) F (m_X1_isBucket l D h cs hk hd hC) q193 q195 qs11 q14 q196 (n := 2) rfl (by decide +kernel) ⟨hR.1, by have := hR.2; exact this⟩ rfl rfl hX (ci := 1) rfl rfl rfl rfl hls hrest hcs hdg (fun r u H1 locs1 hp hX1 => by obtain ⟨z, rfl, rfl, rfl⟩ := hp; exact kk H1 locs1 hX1)
end
section
/-! walks of SplitDirectoryModel: size, has, get, ofDepth, buckets, deepest, depthOf -/
theorem cN_T {p : Nat → Bool} {i : Nat} (h : p i = true) : cN p (i + 1) = cN p i + 1 := by
  show cN p i + (p i).toNat = _
  rw [h]
  rfl
theorem cN_F {p : Nat → Bool} {i : Nat} (h : p i = false) : cN p (i + 1) = cN p i := by
  show cN p i + (p i).toNat = _
  rw [h]
  rfl
theorem iB_ex (T : Nat → Bool) (k : Nat) : ∃ d, d ≤ 6 ∧ iB T k d = true := by
  obtain ⟨d, h1, h2⟩ := pk_least (fun d => ct T k d ≤ 4) ⟨6, ct_6 T k⟩
  refine ⟨d, Nat.le_of_not_lt (fun q => h2 6 q (ct_6 T k)), ?_⟩
  unfold iB
  simp only [Bool.and_eq_true, Bool.or_eq_true, decide_eq_true_eq, beq_iff_eq]
  refine ⟨h1, ?_⟩
  rcases Nat.eq_zero_or_pos d with q | q
  · exact Or.inl q
  · exact Or.inr (Nat.lt_of_not_le (h2 (d - 1) (by omega)))
def hasB (T : Nat → Bool) (k : Int32) : Bool := kB k && T k.toNatClampNeg
theorem hasB_nI {T : Nat → Bool} {j : Nat} (h : j < 256) : hasB T (nI j) = T j := by
  unfold hasB
  rw [kB_nI h, nI_clamp (by omega)]
  rfl
theorem hasB_no {T : Nat → Bool} {k : Int32} (h : kB k = false) : hasB T k = false := by
  unfold hasB
  rw [h]
  rfl
theorem hasB_of {T : Nat → Bool} {k : Int32} (h : hasB T k = true) : ∃ j, j < 256 ∧ k = nI j ∧ T j = true := by
  have h1 : kB k = true := by
    unfold hasB at h
    simp only [Bool.and_eq_true] at h
    exact h.1
  obtain ⟨j, hj, rfl⟩ := kB_of h1
  rw [hasB_nI hj] at h
  exact ⟨j, hj, rfl, h⟩
def getV (T : Nat → Bool) (V : Nat → Int32) (k : Int32) : Int32 := if hasB T k = true then V k.toNatClampNeg else 0
theorem bkN_lt (T : Nat → Bool) : bk T < 1000 := by
  have h : ∀ d, d ≤ 8 → oD T d ≤ 2 ^ d := fun d _ => cN_le _ _
  have h0 := h 0 (by omega); have h1 := h 1 (by omega); have h2 := h 2 (by omega); have h3 := h 3 (by omega); have h4 := h 4 (by omega)
  have h5 := h 5 (by omega); have h6 := h 6 (by omega); have h7 := h 7 (by omega); have h8 := h 8 (by omega)
  show 0 + oD T 0 + oD T 1 + oD T 2 + oD T 3 + oD T 4 + oD T 5 + oD T 6 + oD T 7 + oD T 8 < 1000
  omega
theorem oD_lt (T : Nat → Bool) {d : Nat} (h : d ≤ 8) : oD T d < 1000 := by
  have h1 : oD T d ≤ 2 ^ d := cN_le _ _
  have h2 := pw8 d h
  omega
set_option maxHeartbeats 4000000 in
set_option maxRecDepth 100000 in
/-- size() -/
theorem m_X1_size (l : Launch) (D : va_G) (h : Nat → Nat) (cs : Nat → ClassId) {T : Nat → Bool} {V : Nat → Int32} {C : Nat → Nat}   : cI l yX1_size cX1_size 3 (some .int) ({ frames := 0, cells := 0, slots := 0, locals := 0 } : Room) D (mdT cs) (mdW h cs (T, V, C)) [.ref (h 0)] (mdW h cs) (fun (r : Int32) (u : MD) => u = (T, V, C) ∧ r = nI (cN T 256)) := by
  refine c_int (own := RX1) (by decide) rfl (Nat.le_of_ble_eq_true rfl) ?_
  intro p e s m below meth c A Q ls R args hRm F hend hX hl
  have hl : lv_has ls 3 [(0, .ref (h 0))] := hl
  have loop : ∀ (n i : Nat) (H : Heap) (locs : List Loc) (ls : Array Slot), 257 ≤ i + n → i ≤ 256 → wX D (mdT cs) A s (mdW h cs (T, V, C)) H locs → lv_has ls 3 [(0, .ref (h 0)), (1, .int (nI (cN T i))), (2, .int (nI i))] → W p l e R s m args below meth c H locs 0 0 Q (F0 m 4 ls []) := by
    intro n
    induction n with
    | zero => intro i H locs ls h1 h2; omega
    | succ n ih =>
      intro i H locs ls hn hi hX hl
      refine lv_iload_n F.1 F.2.1 dX1_size_4 rfl (lv_at hl 2 rfl) ?_
      refine lv_sipush (v := nI 256) F.1 F.2.1 dX1_size_5 (by decide +kernel) ?_
      refine nv_icmp_ge (tgt := 34) F dX1_size_8 (by decide) (by omega) (by omega) (fun c8 => ?_) (fun c8 => ?_)
      · refine lv_iload_n F.1 F.2.1 dX1_size_34 rfl (lv_at hl 1 rfl) ?_
        have hi2 : i = 256 := by omega
        subst hi2
        exact hend _ _ _ _ _ _ ⟨rfl, rfl⟩ hX dX1_size_35
      · refine lv_aload_n F.1 F.2.1 dX1_size_11 rfl (lv_at hl 0 rfl) ?_
        refine g_md_T F hX dX1_size_12 ?_
        refine lv_iload_n F.1 F.2.1 dX1_size_15 rfl (lv_at hl 2 rfl) ?_
        refine ld_md_T F hX (by omega) dX1_size_16 ?_
        refine nv_ifB_eq (tgt := 26) F dX1_size_17 (by decide) (fun c17 => ?_) (fun c17 => ?_)
        · have hE := cN_F c17
          refine lv_iload_n F.1 F.2.1 dX1_size_26 rfl (lv_at hl 1 rfl) ?_
          refine lv_istore_n (lv' := [(1, .int _), (0, .ref _), (2, .int _)]) F.1 F.2.1 dX1_size_27 rfl hl (by decide) rfl (fun ls hl => ?_)
          refine nv_iinc (lv' := [(2, .int _), (1, .int _), (0, .ref _)]) F dX1_size_28 hl (k := 2) rfl (by decide) rfl (fun ls hl => ?_)
          refine lv_goto (tgt := 4) F.1 F.2.1 dX1_size_31 (by decide) ?_
          exact ih (i + 1) _ _ _ (by omega) (by omega) hX (by rw [hE]; exact (lv_sub hl [2, 1, 0] rfl))
        · have hE := cN_T c17
          refine lv_iload_n F.1 F.2.1 dX1_size_20 rfl (lv_at hl 1 rfl) ?_
          refine lv_iconst (v := nI 1) F.1 F.2.1 dX1_size_21 (by decide +kernel) ?_
          refine nv_iadd F dX1_size_22 ?_
          refine lv_goto (tgt := 27) F.1 F.2.1 dX1_size_23 (by decide) ?_
          refine lv_istore_n (lv' := [(1, .int _), (0, .ref _), (2, .int _)]) F.1 F.2.1 dX1_size_27 rfl hl (by decide) rfl (fun ls hl => ?_)
          refine nv_iinc (lv' := [(2, .int _), (1, .int _), (0, .ref _)]) F dX1_size_28 hl (k := 2) rfl (by decide) rfl (fun ls hl => ?_)
          refine lv_goto (tgt := 4) F.1 F.2.1 dX1_size_31 (by decide) ?_
          exact ih (i + 1) _ _ _ (by omega) (by omega) hX (by rw [hE]; exact (lv_sub hl [2, 1, 0] rfl))
  refine lv_iconst (v := nI 0) F.1 F.2.1 dX1_size_0 (by decide +kernel) ?_
  refine lv_istore_n (lv' := [(1, .int _), (0, .ref _)]) F.1 F.2.1 dX1_size_1 rfl hl (by decide) rfl (fun ls hl => ?_)
  refine lv_iconst (v := nI 0) F.1 F.2.1 dX1_size_2 (by decide +kernel) ?_
  refine lv_istore_n (lv' := [(2, .int _), (1, .int _), (0, .ref _)]) F.1 F.2.1 dX1_size_3 rfl hl (by decide) rfl (fun ls hl => ?_)
  exact loop 257 0 _ _ _ (by omega) (by omega) hX (lv_sub hl [2, 1, 0] rfl)
set_option maxRecDepth 100000 in
theorem k_X1_size {p : Program} {l : Launch} {e : Env} {R : Room} {s : State} {m : MethodId} {args : Array Value} {below : List Frame} {meth : Method} {c : Code} {H : Heap} {locs : List Loc} {cells slots : Nat} {Q : State → Prop} {cc : ByteArray} {pc : Nat} {ls : Array Slot} {rest : List Value} {nL : Nat} {D : va_G} {A : Nat → Prop} {h : Nat → Nat} {cs : Nat → ClassId} {T : Nat → Bool} {V : Nat → Int32} {C : Nat → Nat}  (F : CallFix p m c cc nL s args lw_all RX1)  (hX : wX D (mdT cs) A s (mdW h cs (T, V, C)) H locs) (hR : 1 ≤ R.frames ∧ 22 ≤ R.locals) (hcs : cells ≤ R.cells ∧ slots ≤ R.slots) (hls : ls.size = nL) (hrest : (rest.map fun v => v.category).sum ≤ 8) (hdg : decode cc pc = .ok (.invokevirtual 28, 3)) (kk : ∀ (H1 : Heap) (locs1 : List Loc), wX D (mdT cs) A s (mdW h cs (T, V, C)) H1 locs1 → W p l e R s m args below meth c H1 locs1 cells slots Q (F0 m (pc + 3) ls (.int (nI (cN T 256)) :: rest))) : W p l e R s m args below meth c H locs cells slots Q (F0 m pc ls (.ref (h 0) :: rest)) :=
  c_calli (C := RX1) (As := []) (rest := rest) F (m_X1_size l D h cs ) q173 q174 q175 q14 q176 (n := 0) rfl (by decide +kernel) ⟨hR.1, by have := hR.2; exact this⟩ rfl rfl hX (ci := 1) rfl rfl rfl rfl hls hrest hcs hdg (fun r u H1 locs1 hp hX1 => by obtain ⟨rfl, rfl⟩ := hp; exact kk H1 locs1 hX1)
set_option maxHeartbeats 4000000 in
set_option maxRecDepth 100000 in
/-- has(k) -/
theorem m_X1_has (l : Launch) (D : va_G) (h : Nat → Nat) (cs : Nat → ClassId) {T : Nat → Bool} {V : Nat → Int32} {C : Nat → Nat} {k : Int32}  : cI l yX1_has cX1_has 2 (some .boolean) ({ frames := 1, cells := 0, slots := 0, locals := 21 } : Room) D (mdT cs) (mdW h cs (T, V, C)) [.ref (h 0), .int k] (mdW h cs) (fun (r : Int32) (u : MD) => ∃ z : Bool, r = nI z.toNat ∧ u = (T, V, C) ∧ z = hasB T k) := by
  refine c_bool (post := fun (z : Bool) (u : MD) => u = (T, V, C) ∧ z = hasB T k) (own := RX1) (by decide) rfl (Nat.le_of_ble_eq_true rfl) ?_
  intro p e s m below meth c A Q ls R args hRm F hend hX hl
  have hl : lv_has ls 2 [(0, .ref (h 0)), (1, .int k)] := hl
  refine lv_aload_n F.1 F.2.1 dX1_has_0 rfl (lv_at hl 0 rfl) ?_
  refine lv_iload_n F.1 F.2.1 dX1_has_1 rfl (lv_at hl 1 rfl) ?_
  refine k_X1_key F  hX ⟨by rw [hRm]; decide, by rw [hRm]; decide⟩ ⟨Nat.zero_le _, Nat.zero_le _⟩ hl.1 (Nat.le_of_ble_eq_true rfl) dX1_has_2 (fun H locs hX => ?_)
  refine nv_ifB_eq (tgt := 21) F dX1_has_5 (by decide) (fun c5 => ?_) (fun c5 => ?_)
  · have hz : (false : Bool) = hasB T k := (hasB_no c5).symm
    refine lv_iconst (v := nI (false).toNat) F.1 F.2.1 dX1_has_21 (by decide +kernel) ?_
    exact hend _ _ false _ _ _ ⟨rfl, hz⟩ hX dX1_has_22
  · obtain ⟨j, hj, rfl⟩ := kB_of c5
    refine lv_aload_n F.1 F.2.1 dX1_has_8 rfl (lv_at hl 0 rfl) ?_
    refine g_md_T F hX dX1_has_9 ?_
    refine lv_iload_n F.1 F.2.1 dX1_has_12 rfl (lv_at hl 1 rfl) ?_
    refine ld_md_T F hX (by omega) dX1_has_13 ?_
    refine nv_ifB_eq (tgt := 21) F dX1_has_14 (by decide) (fun c14 => ?_) (fun c14 => ?_)
    · have hz : (false : Bool) = hasB T (nI j) := by rw [hasB_nI hj, c14]
      refine lv_iconst (v := nI (false).toNat) F.1 F.2.1 dX1_has_21 (by decide +kernel) ?_
      exact hend _ _ false _ _ _ ⟨rfl, hz⟩ hX dX1_has_22
    · refine lv_iconst (v := nI (true).toNat) F.1 F.2.1 dX1_has_17 (by decide +kernel) ?_
      refine lv_goto (tgt := 22) F.1 F.2.1 dX1_has_18 (by decide) ?_
      exact hend _ _ true _ _ _ ⟨rfl, by rw [hasB_nI hj, c14]⟩ hX dX1_has_22
set_option maxRecDepth 100000 in
theorem k_X1_has {p : Program} {l : Launch} {e : Env} {R : Room} {s : State} {m : MethodId} {args : Array Value} {below : List Frame} {meth : Method} {c : Code} {H : Heap} {locs : List Loc} {cells slots : Nat} {Q : State → Prop} {cc : ByteArray} {pc : Nat} {ls : Array Slot} {rest : List Value} {nL : Nat} {D : va_G} {A : Nat → Prop} {h : Nat → Nat} {cs : Nat → ClassId} {T : Nat → Bool} {V : Nat → Int32} {C : Nat → Nat} {k : Int32} (F : CallFix p m c cc nL s args lw_all RX1)  (hX : wX D (mdT cs) A s (mdW h cs (T, V, C)) H locs) (hR : 2 ≤ R.frames ∧ 42 ≤ R.locals) (hcs : cells ≤ R.cells ∧ slots ≤ R.slots) (hls : ls.size = nL) (hrest : (rest.map fun v => v.category).sum ≤ 8) (hdg : decode cc pc = .ok (.invokevirtual 35, 3)) (kk : ∀ (H1 : Heap) (locs1 : List Loc), wX D (mdT cs) A s (mdW h cs (T, V, C)) H1 locs1 → W p l e R s m args below meth c H1 locs1 cells slots Q (F0 m (pc + 3) ls (.int ((nI (hasB T k).toNat)) :: rest))) : W p l e R s m args below meth c H locs cells slots Q (F0 m pc ls (.int k :: .ref (h 0) :: rest)) :=
  c_calli (C := RX1) (As := [.int k]) (rest := rest) F (m_X1_has l D h cs ) q201 q202 q203 q14 q204 (n := 1) rfl (by decide +kernel) ⟨hR.1, by have := hR.2; exact this⟩ rfl rfl hX (ci := 1) rfl rfl rfl rfl hls hrest hcs hdg (fun r u H1 locs1 hp hX1 => by obtain ⟨z, rfl, rfl, rfl⟩ := hp; exact kk H1 locs1 hX1)
set_option maxHeartbeats 4000000 in
set_option maxRecDepth 100000 in
/-- get(k) -/
theorem m_X1_get (l : Launch) (D : va_G) (h : Nat → Nat) (cs : Nat → ClassId) {T : Nat → Bool} {V : Nat → Int32} {C : Nat → Nat} {k : Int32}  : cI l yX1_get cX1_get 2 (some .int) ({ frames := 2, cells := 0, slots := 0, locals := 42 } : Room) D (mdT cs) (mdW h cs (T, V, C)) [.ref (h 0), .int k] (mdW h cs) (fun (r : Int32) (u : MD) => u = (T, V, C) ∧ r = getV T V k) := by
  refine c_int (own := RX1) (by decide) rfl (Nat.le_of_ble_eq_true rfl) ?_
  intro p e s m below meth c A Q ls R args hRm F hend hX hl
  have hl : lv_has ls 2 [(0, .ref (h 0)), (1, .int k)] := hl
  refine lv_aload_n F.1 F.2.1 dX1_get_0 rfl (lv_at hl 0 rfl) ?_
  refine lv_iload_n F.1 F.2.1 dX1_get_1 rfl (lv_at hl 1 rfl) ?_
  refine k_X1_has F  hX ⟨by rw [hRm]; decide, by rw [hRm]; decide⟩ ⟨Nat.zero_le _, Nat.zero_le _⟩ hl.1 (Nat.le_of_ble_eq_true rfl) dX1_get_2 (fun H locs hX => ?_)
  refine nv_ifB_eq (tgt := 17) F dX1_get_5 (by decide) (fun c5 => ?_) (fun c5 => ?_)
  · have hz : (0 : Int32) = getV T V k := by unfold getV; simp [c5]
    refine lv_iconst (v := 0) F.1 F.2.1 dX1_get_17 (by decide +kernel) ?_
    exact hend _ _ _ _ _ _ ⟨rfl, hz⟩ hX dX1_get_18
  · obtain ⟨j, hj, rfl, hT⟩ := hasB_of c5
    have hz : V j = getV T V (nI j) := by unfold getV; rw [if_pos c5, nI_clamp (by omega)]
    refine lv_aload_n F.1 F.2.1 dX1_get_8 rfl (lv_at hl 0 rfl) ?_
    refine g_md_V F hX dX1_get_9 ?_
    refine lv_iload_n F.1 F.2.1 dX1_get_12 rfl (lv_at hl 1 rfl) ?_
    refine ld_md_V F hX (by omega) dX1_get_13 ?_
    refine lv_goto (tgt := 18) F.1 F.2.1 dX1_get_14 (by decide) ?_
    exact hend _ _ _ _ _ _ ⟨rfl, hz⟩ hX dX1_get_18
set_option maxHeartbeats 4000000 in
set_option maxRecDepth 100000 in
/-- ofDepth(d), d of 0 .. 8 -/
theorem m_X1_ofDepth (l : Launch) (D : va_G) (h : Nat → Nat) (cs : Nat → ClassId) {T : Nat → Bool} {V : Nat → Int32} {C : Nat → Nat} {d : Nat} (hd : d ≤ 8) : cI l yX1_ofDepth cX1_ofDepth 4 (some .int) ({ frames := 2, cells := 0, slots := 0, locals := 45 } : Room) D (mdT cs) (mdW h cs (T, V, C)) [.ref (h 0), .int (nI d)] (mdW h cs) (fun (r : Int32) (u : MD) => (∃ C2, u = (T, V, C2)) ∧ r = nI (oD T d)) := by
  refine c_int (own := RX1) (by decide) rfl (Nat.le_of_ble_eq_true rfl) ?_
  intro p e s m below meth c A Q ls R args hRm F hend hX hl
  have hl : lv_has ls 4 [(0, .ref (h 0)), (1, .int (nI d))] := hl
  refine lv_aload_n F.1 F.2.1 dX1_ofDepth_0 rfl (lv_at hl 0 rfl) ?_
  refine k_X1_count F  hX ⟨by rw [hRm]; decide, by rw [hRm]; decide⟩ ⟨Nat.zero_le _, Nat.zero_le _⟩ hl.1 (Nat.le_of_ble_eq_true rfl) dX1_ofDepth_1 (fun u H locs hp hX => ?_)
  obtain ⟨C, rfl, hC⟩ := hp
  have hp := pw8 d hd
  have loop : ∀ (n i : Nat) (H : Heap) (locs : List Loc) (ls : Array Slot), 2 ^ d + 1 ≤ i + n → i ≤ 2 ^ d → wX D (mdT cs) A s (mdW h cs (T, V, C)) H locs → lv_has ls 4 [(0, .ref (h 0)), (1, .int (nI d)), (2, .int (nI (cN (fun e => iB T e d) i))), (3, .int (nI i))] → W p l e R s m args below meth c H locs 0 0 Q (F0 m 8 ls []) := by
    intro n
    induction n with
    | zero => intro i H locs ls h1 h2; omega
    | succ n ih =>
      intro i H locs ls hn hi hX hl
      refine lv_iload_n F.1 F.2.1 dX1_ofDepth_8 rfl (lv_at hl 1 rfl) ?_
      refine nv_if_lt (tgt := 48) F dX1_ofDepth_9 (by decide) (by omega) ?_
      refine lv_iload_n F.1 F.2.1 dX1_ofDepth_12 rfl (lv_at hl 1 rfl) ?_
      refine lv_bipush (v := nI 8) F.1 F.2.1 dX1_ofDepth_13 (by decide +kernel) ?_
      refine nv_icmp_gt (tgt := 48) F dX1_ofDepth_15 (by decide) (by omega) (by omega) (fun c15 => ?_) (fun c15 => ?_)
      · exact absurd c15 (by omega)
      · refine lv_iload_n F.1 F.2.1 dX1_ofDepth_18 rfl (lv_at hl 3 rfl) ?_
        refine lv_iconst (v := nI 1) F.1 F.2.1 dX1_ofDepth_19 (by decide +kernel) ?_
        refine lv_iload_n F.1 F.2.1 dX1_ofDepth_20 rfl (lv_at hl 1 rfl) ?_
        refine nv_shl1 F (by omega) dX1_ofDepth_21 ?_
        refine nv_icmp_ge (tgt := 48) F dX1_ofDepth_22 (by decide) (by omega) (by omega) (fun c22 => ?_) (fun c22 => ?_)
        · refine lv_iload_n F.1 F.2.1 dX1_ofDepth_48 rfl (lv_at hl 2 rfl) ?_
          have hi2 : i = 2 ^ d := by omega
          subst hi2
          exact hend _ _ _ _ _ _ ⟨⟨_, rfl⟩, rfl⟩ hX dX1_ofDepth_49
        · refine lv_aload_n F.1 F.2.1 dX1_ofDepth_25 rfl (lv_at hl 0 rfl) ?_
          refine lv_iload_n F.1 F.2.1 dX1_ofDepth_26 rfl (lv_at hl 3 rfl) ?_
          refine lv_iload_n F.1 F.2.1 dX1_ofDepth_27 rfl (lv_at hl 1 rfl) ?_
          refine k_X1_isBucket F (by omega) (by omega) hC hX ⟨by rw [hRm]; decide, by rw [hRm]; decide⟩ ⟨Nat.zero_le _, Nat.zero_le _⟩ hl.1 (Nat.le_of_ble_eq_true rfl) dX1_ofDepth_28 (fun H locs hX => ?_)
          refine nv_ifB_eq (tgt := 40) F dX1_ofDepth_31 (by decide) (fun c31 => ?_) (fun c31 => ?_)
          · have hE := cN_F (p := fun e => iB T e d) c31
            refine lv_iload_n F.1 F.2.1 dX1_ofDepth_40 rfl (lv_at hl 2 rfl) ?_
            refine lv_istore_n (lv' := [(2, .int _), (0, .ref _), (1, .int _), (3, .int _)]) F.1 F.2.1 dX1_ofDepth_41 rfl hl (by decide) rfl (fun ls hl => ?_)
            refine nv_iinc (lv' := [(3, .int _), (2, .int _), (0, .ref _), (1, .int _)]) F dX1_ofDepth_42 hl (k := 3) rfl (by decide) rfl (fun ls hl => ?_)
            refine lv_goto (tgt := 8) F.1 F.2.1 dX1_ofDepth_45 (by decide) ?_
            exact ih (i + 1) _ _ _ (by omega) (by omega) hX (by rw [hE]; exact (lv_sub hl [2, 3, 1, 0] rfl))
          · have hE := cN_T (p := fun e => iB T e d) c31
            refine lv_iload_n F.1 F.2.1 dX1_ofDepth_34 rfl (lv_at hl 2 rfl) ?_
            refine lv_iconst (v := nI 1) F.1 F.2.1 dX1_ofDepth_35 (by decide +kernel) ?_
            refine nv_iadd F dX1_ofDepth_36 ?_
            refine lv_goto (tgt := 41) F.1 F.2.1 dX1_ofDepth_37 (by decide) ?_
            refine lv_istore_n (lv' := [(2, .int _), (0, .ref _), (1, .int _), (3, .int _)]) F.1 F.2.1 dX1_ofDepth_41 rfl hl (by decide) rfl (fun ls hl => ?_)
            refine nv_iinc (lv' := [(3, .int _), (2, .int _), (0, .ref _), (1, .int _)]) F dX1_ofDepth_42 hl (k := 3) rfl (by decide) rfl (fun ls hl => ?_)
            refine lv_goto (tgt := 8) F.1 F.2.1 dX1_ofDepth_45 (by decide) ?_
            exact ih (i + 1) _ _ _ (by omega) (by omega) hX (by rw [hE]; exact (lv_sub hl [2, 3, 1, 0] rfl))
  refine lv_iconst (v := nI 0) F.1 F.2.1 dX1_ofDepth_4 (by decide +kernel) ?_
  refine lv_istore_n (lv' := [(2, .int _), (0, .ref _), (1, .int _)]) F.1 F.2.1 dX1_ofDepth_5 rfl hl (by decide) rfl (fun ls hl => ?_)
  refine lv_iconst (v := nI 0) F.1 F.2.1 dX1_ofDepth_6 (by decide +kernel) ?_
  refine lv_istore_n (lv' := [(3, .int _), (2, .int _), (0, .ref _), (1, .int _)]) F.1 F.2.1 dX1_ofDepth_7 rfl hl (by decide) rfl (fun ls hl => ?_)
  exact loop (2 ^ d + 1) 0 _ _ _ (by omega) (Nat.zero_le _) hX (lv_sub hl [2, 3, 1, 0] rfl)
set_option maxRecDepth 100000 in
theorem k_X1_ofDepth {p : Program} {l : Launch} {e : Env} {R : Room} {s : State} {m : MethodId} {args : Array Value} {below : List Frame} {meth : Method} {c : Code} {H : Heap} {locs : List Loc} {cells slots : Nat} {Q : State → Prop} {cc : ByteArray} {pc : Nat} {ls : Array Slot} {rest : List Value} {nL : Nat} {D : va_G} {A : Nat → Prop} {h : Nat → Nat} {cs : Nat → ClassId} {T : Nat → Bool} {V : Nat → Int32} {C : Nat → Nat} {d : Nat} (F : CallFix p m c cc nL s args lw_all RX1) (hd : d ≤ 8) (hX : wX D (mdT cs) A s (mdW h cs (T, V, C)) H locs) (hR : 3 ≤ R.frames ∧ 68 ≤ R.locals) (hcs : cells ≤ R.cells ∧ slots ≤ R.slots) (hls : ls.size = nL) (hrest : (rest.map fun v => v.category).sum ≤ 8) (hdg : decode cc pc = .ok (.invokevirtual 38, 3)) (kk : ∀ (r : Int32) (u : MD) (H1 : Heap) (locs1 : List Loc), ((∃ C2, u = (T, V, C2)) ∧ r = nI (oD T d)) → wX D (mdT cs) A s (mdW h cs u) H1 locs1 → W p l e R s m args below meth c H1 locs1 cells slots Q (F0 m (pc + 3) ls (.int r :: rest))) : W p l e R s m args below meth c H locs cells slots Q (F0 m pc ls (.int (nI d) :: .ref (h 0) :: rest)) :=
  c_calli (C := RX1) (As := [.int (nI d)]) (rest := rest) F (m_X1_ofDepth l D h cs hd) q181 q182 q183 q14 q184 (n := 1) rfl (by decide +kernel) ⟨hR.1, by have := hR.2; exact this⟩ rfl rfl hX (ci := 1) rfl rfl rfl rfl hls hrest hcs hdg (kk)
set_option maxHeartbeats 4000000 in
set_option maxRecDepth 100000 in
/-- ofDepth(d), any other d -/
theorem m_X1_ofDepthX (l : Launch) (D : va_G) (h : Nat → Nat) (cs : Nat → ClassId) {T : Nat → Bool} {V : Nat → Int32} {C : Nat → Nat} {d : Int32} (hd : ¬ d < 0 → ¬ ¬ 8 < d) : cI l yX1_ofDepth cX1_ofDepth 4 (some .int) ({ frames := 2, cells := 0, slots := 0, locals := 45 } : Room) D (mdT cs) (mdW h cs (T, V, C)) [.ref (h 0), .int d] (mdW h cs) (fun (r : Int32) (u : MD) => (∃ C2, u = (T, V, C2)) ∧ r = nI 0) := by
  refine c_int (own := RX1) (by decide) rfl (Nat.le_of_ble_eq_true rfl) ?_
  intro p e s m below meth c A Q ls R args hRm F hend hX hl
  have hl : lv_has ls 4 [(0, .ref (h 0)), (1, .int d)] := hl
  refine lv_aload_n F.1 F.2.1 dX1_ofDepth_0 rfl (lv_at hl 0 rfl) ?_
  refine k_X1_count F  hX ⟨by rw [hRm]; decide, by rw [hRm]; decide⟩ ⟨Nat.zero_le _, Nat.zero_le _⟩ hl.1 (Nat.le_of_ble_eq_true rfl) dX1_ofDepth_1 (fun u H locs hp hX => ?_)
  obtain ⟨C, rfl, hC⟩ := hp
  refine lv_iconst (v := nI 0) F.1 F.2.1 dX1_ofDepth_4 (by decide +kernel) ?_
  refine lv_istore_n (lv' := [(2, .int _), (0, .ref _), (1, .int _)]) F.1 F.2.1 dX1_ofDepth_5 rfl hl (by decide) rfl (fun ls hl => ?_)
  refine lv_iconst (v := nI 0) F.1 F.2.1 dX1_ofDepth_6 (by decide +kernel) ?_
  refine lv_istore_n (lv' := [(3, .int _), (2, .int _), (0, .ref _), (1, .int _)]) F.1 F.2.1 dX1_ofDepth_7 rfl hl (by decide) rfl (fun ls hl => ?_)
  refine lv_iload_n F.1 F.2.1 dX1_ofDepth_8 rfl (lv_at hl 3 rfl) ?_
  refine lv_if_lt (tgt := 48) F.1 F.2.1 dX1_ofDepth_9 (by decide) (fun c9 => ?_) (fun c9 => ?_)
  · refine lv_iload_n F.1 F.2.1 dX1_ofDepth_48 rfl (lv_at hl 1 rfl) ?_
    exact hend _ _ _ _ _ _ ⟨⟨_, rfl⟩, rfl⟩ hX dX1_ofDepth_49
  · refine lv_iload_n F.1 F.2.1 dX1_ofDepth_12 rfl (lv_at hl 3 rfl) ?_
    refine lv_bipush (v := 8) F.1 F.2.1 dX1_ofDepth_13 (by decide +kernel) ?_
    refine lv_icmp_gt (tgt := 48) F.1 F.2.1 dX1_ofDepth_15 (by decide) (fun c15 => ?_) (fun c15 => ?_)
    · refine lv_iload_n F.1 F.2.1 dX1_ofDepth_48 rfl (lv_at hl 1 rfl) ?_
      exact hend _ _ _ _ _ _ ⟨⟨_, rfl⟩, rfl⟩ hX dX1_ofDepth_49
    · exact absurd c15 (hd c9)
set_option maxRecDepth 100000 in
theorem k_X1_ofDepthX {p : Program} {l : Launch} {e : Env} {R : Room} {s : State} {m : MethodId} {args : Array Value} {below : List Frame} {meth : Method} {c : Code} {H : Heap} {locs : List Loc} {cells slots : Nat} {Q : State → Prop} {cc : ByteArray} {pc : Nat} {ls : Array Slot} {rest : List Value} {nL : Nat} {D : va_G} {A : Nat → Prop} {h : Nat → Nat} {cs : Nat → ClassId} {T : Nat → Bool} {V : Nat → Int32} {C : Nat → Nat} {d : Int32} (F : CallFix p m c cc nL s args lw_all RX1) (hd : ¬ d < 0 → ¬ ¬ 8 < d) (hX : wX D (mdT cs) A s (mdW h cs (T, V, C)) H locs) (hR : 3 ≤ R.frames ∧ 68 ≤ R.locals) (hcs : cells ≤ R.cells ∧ slots ≤ R.slots) (hls : ls.size = nL) (hrest : (rest.map fun v => v.category).sum ≤ 8) (hdg : decode cc pc = .ok (.invokevirtual 38, 3)) (kk : ∀ (r : Int32) (u : MD) (H1 : Heap) (locs1 : List Loc), ((∃ C2, u = (T, V, C2)) ∧ r = nI 0) → wX D (mdT cs) A s (mdW h cs u) H1 locs1 → W p l e R s m args below meth c H1 locs1 cells slots Q (F0 m (pc + 3) ls (.int r :: rest))) : W p l e R s m args below meth c H locs cells slots Q (F0 m pc ls (.int d :: .ref (h 0) :: rest)) :=
  c_calli (C := RX1) (As := [.int d]) (rest := rest) F (m_X1_ofDepthX l D h cs hd) q181 q182 q183 q14 q184 (n := 1) rfl (by decide +kernel) ⟨hR.1, by have := hR.2; exact this⟩ rfl rfl hX (ci := 1) rfl rfl rfl rfl hls hrest hcs hdg (kk)
set_option maxHeartbeats 4000000 in
set_option maxRecDepth 100000 in
/-- buckets() -/
theorem m_X1_buckets (l : Launch) (D : va_G) (h : Nat → Nat) (cs : Nat → ClassId) {T : Nat → Bool} {V : Nat → Int32} {C : Nat → Nat}   : cI l yX1_buckets cX1_buckets 3 (some .int) ({ frames := 3, cells := 0, slots := 0, locals := 68 } : Room) D (mdT cs) (mdW h cs (T, V, C)) [.ref (h 0)] (mdW h cs) (fun (r : Int32) (u : MD) => (∃ C2, u = (T, V, C2)) ∧ r = nI (bk T)) := by
  refine c_int (own := RX1) (by decide) rfl (Nat.le_of_ble_eq_true rfl) ?_
  intro p e s m below meth c A Q ls R args hRm F hend hX hl
  have hl : lv_has ls 3 [(0, .ref (h 0))] := hl
  have loop : ∀ (n i : Nat) (C : Nat → Nat) (H : Heap) (locs : List Loc) (ls : Array Slot), 10 ≤ i + n → i ≤ 9 → wX D (mdT cs) A s (mdW h cs (T, V, C)) H locs → lv_has ls 3 [(0, .ref (h 0)), (1, .int (nI (bkN T i))), (2, .int (nI i))] → W p l e R s m args below meth c H locs 0 0 Q (F0 m 4 ls []) := by
    intro n
    induction n with
    | zero => intro i C H locs ls h1 h2; omega
    | succ n ih =>
      intro i C H locs ls hn hi hX hl
      refine lv_iload_n F.1 F.2.1 dX1_buckets_4 rfl (lv_at hl 2 rfl) ?_
      refine lv_bipush (v := nI 8) F.1 F.2.1 dX1_buckets_5 (by decide +kernel) ?_
      refine nv_icmp_gt (tgt := 24) F dX1_buckets_7 (by decide) (by omega) (by omega) (fun c7 => ?_) (fun c7 => ?_)
      · refine lv_iload_n F.1 F.2.1 dX1_buckets_24 rfl (lv_at hl 1 rfl) ?_
        have hi2 : i = 9 := by omega
        subst hi2
        exact hend _ _ _ _ _ _ ⟨⟨_, rfl⟩, rfl⟩ hX dX1_buckets_25
      · refine lv_iload_n F.1 F.2.1 dX1_buckets_10 rfl (lv_at hl 1 rfl) ?_
        refine lv_aload_n F.1 F.2.1 dX1_buckets_11 rfl (lv_at hl 0 rfl) ?_
        refine lv_iload_n F.1 F.2.1 dX1_buckets_12 rfl (lv_at hl 2 rfl) ?_
        refine k_X1_ofDepth F (by omega) hX ⟨by rw [hRm]; decide, by rw [hRm]; decide⟩ ⟨Nat.zero_le _, Nat.zero_le _⟩ hl.1 (Nat.le_of_ble_eq_true rfl) dX1_buckets_13 (fun r u H locs hp hX => ?_)
        obtain ⟨⟨C2, rfl⟩, rfl⟩ := hp
        refine nv_iadd F dX1_buckets_16 ?_
        refine lv_istore_n (lv' := [(1, .int _), (0, .ref _), (2, .int _)]) F.1 F.2.1 dX1_buckets_17 rfl hl (by decide) rfl (fun ls hl => ?_)
        refine nv_iinc (lv' := [(2, .int _), (1, .int _), (0, .ref _)]) F dX1_buckets_18 hl (k := 2) rfl (by decide) rfl (fun ls hl => ?_)
        refine lv_goto (tgt := 4) F.1 F.2.1 dX1_buckets_21 (by decide) ?_
        exact ih (i + 1) _ _ _ _ (by omega) (by omega) hX (lv_sub hl [2, 1, 0] rfl)
  refine lv_iconst (v := nI 0) F.1 F.2.1 dX1_buckets_0 (by decide +kernel) ?_
  refine lv_istore_n (lv' := [(1, .int _), (0, .ref _)]) F.1 F.2.1 dX1_buckets_1 rfl hl (by decide) rfl (fun ls hl => ?_)
  refine lv_iconst (v := nI 0) F.1 F.2.1 dX1_buckets_2 (by decide +kernel) ?_
  refine lv_istore_n (lv' := [(2, .int _), (1, .int _), (0, .ref _)]) F.1 F.2.1 dX1_buckets_3 rfl hl (by decide) rfl (fun ls hl => ?_)
  exact loop 10 0 _ _ _ _ (by omega) (by omega) hX (lv_sub hl [2, 1, 0] rfl)
set_option maxRecDepth 100000 in
theorem k_X1_buckets {p : Program} {l : Launch} {e : Env} {R : Room} {s : State} {m : MethodId} {args : Array Value} {below : List Frame} {meth : Method} {c : Code} {H : Heap} {locs : List Loc} {cells slots : Nat} {Q : State → Prop} {cc : ByteArray} {pc : Nat} {ls : Array Slot} {rest : List Value} {nL : Nat} {D : va_G} {A : Nat → Prop} {h : Nat → Nat} {cs : Nat → ClassId} {T : Nat → Bool} {V : Nat → Int32} {C : Nat → Nat}  (F : CallFix p m c cc nL s args lw_all RX1)  (hX : wX D (mdT cs) A s (mdW h cs (T, V, C)) H locs) (hR : 4 ≤ R.frames ∧ 90 ≤ R.locals) (hcs : cells ≤ R.cells ∧ slots ≤ R.slots) (hls : ls.size = nL) (hrest : (rest.map fun v => v.category).sum ≤ 8) (hdg : decode cc pc = .ok (.invokevirtual 32, 3)) (kk : ∀ (r : Int32) (u : MD) (H1 : Heap) (locs1 : List Loc), ((∃ C2, u = (T, V, C2)) ∧ r = nI (bk T)) → wX D (mdT cs) A s (mdW h cs u) H1 locs1 → W p l e R s m args below meth c H1 locs1 cells slots Q (F0 m (pc + 3) ls (.int r :: rest))) : W p l e R s m args below meth c H locs cells slots Q (F0 m pc ls (.ref (h 0) :: rest)) :=
  c_calli (C := RX1) (As := []) (rest := rest) F (m_X1_buckets l D h cs ) q177 q178 q179 q14 q180 (n := 0) rfl (by decide +kernel) ⟨hR.1, by have := hR.2; exact this⟩ rfl rfl hX (ci := 1) rfl rfl rfl rfl hls hrest hcs hdg (kk)
set_option maxHeartbeats 4000000 in
set_option maxRecDepth 100000 in
/-- deepest() -/
theorem m_X1_deepest (l : Launch) (D : va_G) (h : Nat → Nat) (cs : Nat → ClassId) {T : Nat → Bool} {V : Nat → Int32} {C : Nat → Nat}   : cI l yX1_deepest cX1_deepest 3 (some .int) ({ frames := 3, cells := 0, slots := 0, locals := 68 } : Room) D (mdT cs) (mdW h cs (T, V, C)) [.ref (h 0)] (mdW h cs) (fun (r : Int32) (u : MD) => (∃ C2, u = (T, V, C2)) ∧ r = nI (mxD T 9)) := by
  refine c_int (own := RX1) (by decide) rfl (Nat.le_of_ble_eq_true rfl) ?_
  intro p e s m below meth c A Q ls R args hRm F hend hX hl
  have hl : lv_has ls 3 [(0, .ref (h 0))] := hl
  have loop : ∀ (n i : Nat) (C : Nat → Nat) (H : Heap) (locs : List Loc) (ls : Array Slot), 10 ≤ i + n → i ≤ 9 → wX D (mdT cs) A s (mdW h cs (T, V, C)) H locs → lv_has ls 3 [(0, .ref (h 0)), (1, .int (nI (mxD T i))), (2, .int (nI i))] → W p l e R s m args below meth c H locs 0 0 Q (F0 m 4 ls []) := by
    intro n
    induction n with
    | zero => intro i C H locs ls h1 h2; omega
    | succ n ih =>
      intro i C H locs ls hn hi hX hl
      refine lv_iload_n F.1 F.2.1 dX1_deepest_4 rfl (lv_at hl 2 rfl) ?_
      refine lv_bipush (v := nI 8) F.1 F.2.1 dX1_deepest_5 (by decide +kernel) ?_
      refine nv_icmp_gt (tgt := 30) F dX1_deepest_7 (by decide) (by omega) (by omega) (fun c7 => ?_) (fun c7 => ?_)
      · refine lv_iload_n F.1 F.2.1 dX1_deepest_30 rfl (lv_at hl 1 rfl) ?_
        have hi2 : i = 9 := by omega
        subst hi2
        exact hend _ _ _ _ _ _ ⟨⟨_, rfl⟩, rfl⟩ hX dX1_deepest_31
      · refine lv_aload_n F.1 F.2.1 dX1_deepest_10 rfl (lv_at hl 0 rfl) ?_
        refine lv_iload_n F.1 F.2.1 dX1_deepest_11 rfl (lv_at hl 2 rfl) ?_
        refine k_X1_ofDepth F (by omega) hX ⟨by rw [hRm]; decide, by rw [hRm]; decide⟩ ⟨Nat.zero_le _, Nat.zero_le _⟩ hl.1 (Nat.le_of_ble_eq_true rfl) dX1_deepest_12 (fun r u H locs hp hX => ?_)
        obtain ⟨⟨C2, rfl⟩, rfl⟩ := hp
        have hoD := oD_lt T (show i ≤ 8 by omega)
        refine nv_if_le (tgt := 22) F dX1_deepest_15 (by decide) (by omega) (fun c15 => ?_) (fun c15 => ?_)
        · have hE : mxD T (i + 1) = mxD T i := if_neg (by omega)
          refine lv_iload_n F.1 F.2.1 dX1_deepest_22 rfl (lv_at hl 1 rfl) ?_
          refine lv_istore_n (lv' := [(1, .int _), (0, .ref _), (2, .int _)]) F.1 F.2.1 dX1_deepest_23 rfl hl (by decide) rfl (fun ls hl => ?_)
          refine nv_iinc (lv' := [(2, .int _), (1, .int _), (0, .ref _)]) F dX1_deepest_24 hl (k := 2) rfl (by decide) rfl (fun ls hl => ?_)
          refine lv_goto (tgt := 4) F.1 F.2.1 dX1_deepest_27 (by decide) ?_
          exact ih (i + 1) _ _ _ _ (by omega) (by omega) hX (by rw [hE]; exact (lv_sub hl [2, 1, 0] rfl))
        · have hE : mxD T (i + 1) = i := if_pos (by omega)
          refine lv_iload_n F.1 F.2.1 dX1_deepest_18 rfl (lv_at hl 2 rfl) ?_
          refine lv_goto (tgt := 23) F.1 F.2.1 dX1_deepest_19 (by decide) ?_
          refine lv_istore_n (lv' := [(1, .int _), (0, .ref _), (2, .int _)]) F.1 F.2.1 dX1_deepest_23 rfl hl (by decide) rfl (fun ls hl => ?_)
          refine nv_iinc (lv' := [(2, .int _), (1, .int _), (0, .ref _)]) F dX1_deepest_24 hl (k := 2) rfl (by decide) rfl (fun ls hl => ?_)
          refine lv_goto (tgt := 4) F.1 F.2.1 dX1_deepest_27 (by decide) ?_
          exact ih (i + 1) _ _ _ _ (by omega) (by omega) hX (by rw [hE]; exact (lv_sub hl [2, 1, 0] rfl))
  refine lv_iconst (v := nI 0) F.1 F.2.1 dX1_deepest_0 (by decide +kernel) ?_
  refine lv_istore_n (lv' := [(1, .int _), (0, .ref _)]) F.1 F.2.1 dX1_deepest_1 rfl hl (by decide) rfl (fun ls hl => ?_)
  refine lv_iconst (v := nI 0) F.1 F.2.1 dX1_deepest_2 (by decide +kernel) ?_
  refine lv_istore_n (lv' := [(2, .int _), (1, .int _), (0, .ref _)]) F.1 F.2.1 dX1_deepest_3 rfl hl (by decide) rfl (fun ls hl => ?_)
  exact loop 10 0 _ _ _ _ (by omega) (by omega) hX (lv_sub hl [2, 1, 0] rfl)
set_option maxHeartbeats 4000000 in
set_option maxRecDepth 100000 in
/-- depthOf(a key) -/
theorem m_X1_depthOf (l : Launch) (D : va_G) (h : Nat → Nat) (cs : Nat → ClassId) {T : Nat → Bool} {V : Nat → Int32} {C : Nat → Nat} {j : Nat} (hj : j < 256) : cI l yX1_depthOf cX1_depthOf 3 (some .int) ({ frames := 2, cells := 0, slots := 0, locals := 45 } : Room) D (mdT cs) (mdW h cs (T, V, C)) [.ref (h 0), .int (nI j)] (mdW h cs) (fun (r : Int32) (u : MD) => ∃ d C2, d ≤ 8 ∧ iB T j d = true ∧ r = nI d ∧ u = (T, V, C2) ∧ cOK T C2) := by
  refine c_int (own := RX1) (by decide) rfl (Nat.le_of_ble_eq_true rfl) ?_
  intro p e s m below meth c A Q ls R args hRm F hend hX hl
  have hl : lv_has ls 3 [(0, .ref (h 0)), (1, .int (nI j))] := hl
  refine lv_aload_n F.1 F.2.1 dX1_depthOf_0 rfl (lv_at hl 0 rfl) ?_
  refine k_X1_count F  hX ⟨by rw [hRm]; decide, by rw [hRm]; decide⟩ ⟨Nat.zero_le _, Nat.zero_le _⟩ hl.1 (Nat.le_of_ble_eq_true rfl) dX1_depthOf_1 (fun u H locs hp hX => ?_)
  obtain ⟨C, rfl, hC⟩ := hp
  have loop : ∀ (n i : Nat) (H : Heap) (locs : List Loc) (ls : Array Slot), 10 ≤ i + n → i ≤ 9 → (∀ d, d < i → iB T j d = false) → wX D (mdT cs) A s (mdW h cs (T, V, C)) H locs → lv_has ls 3 [(0, .ref (h 0)), (1, .int (nI j)), (2, .int (nI i))] → W p l e R s m args below meth c H locs 0 0 Q (F0 m 6 ls []) := by
    intro n
    induction n with
    | zero => intro i H locs ls h1 h2; omega
    | succ n ih =>
      intro i H locs ls hn hi hI hX hl
      refine lv_iload_n F.1 F.2.1 dX1_depthOf_6 rfl (lv_at hl 2 rfl) ?_
      refine lv_bipush (v := nI 8) F.1 F.2.1 dX1_depthOf_7 (by decide +kernel) ?_
      refine nv_icmp_gt (tgt := 37) F dX1_depthOf_9 (by decide) (by omega) (by omega) (fun c9 => ?_) (fun c9 => ?_)
      · obtain ⟨d, hd1, hd2⟩ := iB_ex T j
        rw [hI d (by omega)] at hd2
        cases hd2
      · refine lv_aload_n F.1 F.2.1 dX1_depthOf_12 rfl (lv_at hl 0 rfl) ?_
        refine lv_iload_n F.1 F.2.1 dX1_depthOf_13 rfl (lv_at hl 1 rfl) ?_
        refine k_X1_key F  hX ⟨by rw [hRm]; decide, by rw [hRm]; decide⟩ ⟨Nat.zero_le _, Nat.zero_le _⟩ hl.1 (Nat.le_of_ble_eq_true rfl) dX1_depthOf_14 (fun H locs hX => ?_)
        refine nv_ifB_eq (tgt := 37) F dX1_depthOf_17 (by decide) (fun c17 => ?_) (fun c17 => ?_)
        · rw [kB_nI hj] at c17
          cases c17
        · refine lv_aload_n F.1 F.2.1 dX1_depthOf_20 rfl (lv_at hl 0 rfl) ?_
          refine lv_iload_n F.1 F.2.1 dX1_depthOf_21 rfl (lv_at hl 1 rfl) ?_
          refine lv_iload_n F.1 F.2.1 dX1_depthOf_22 rfl (lv_at hl 2 rfl) ?_
          refine k_X1_isBucket F (by omega) (by omega) hC hX ⟨by rw [hRm]; decide, by rw [hRm]; decide⟩ ⟨Nat.zero_le _, Nat.zero_le _⟩ hl.1 (Nat.le_of_ble_eq_true rfl) dX1_depthOf_23 (fun H locs hX => ?_)
          refine nv_ifB_eq (tgt := 31) F dX1_depthOf_26 (by decide) (fun c26 => ?_) (fun c26 => ?_)
          · refine nv_iinc (lv' := [(2, .int _), (0, .ref _), (1, .int _)]) F dX1_depthOf_31 hl (k := 2) rfl (by decide) rfl (fun ls hl => ?_)
            refine lv_goto (tgt := 6) F.1 F.2.1 dX1_depthOf_34 (by decide) ?_
            refine ih (i + 1) _ _ _ (by omega) (by omega) (fun d hd => ?_) hX (lv_sub hl [1, 2, 0] rfl)
            rcases Nat.lt_or_ge d i with q | q
            · exact hI d q
            · rw [show d = i by omega]
              exact c26
          · refine lv_iload_n F.1 F.2.1 dX1_depthOf_29 rfl (lv_at hl 2 rfl) ?_
            exact hend _ _ _ _ _ _ ⟨i, C, by omega, c26, rfl, rfl, hC⟩ hX dX1_depthOf_30
  refine lv_iconst (v := nI 0) F.1 F.2.1 dX1_depthOf_4 (by decide +kernel) ?_
  refine lv_istore_n (lv' := [(2, .int _), (0, .ref _), (1, .int _)]) F.1 F.2.1 dX1_depthOf_5 rfl hl (by decide) rfl (fun ls hl => ?_)
  exact loop 10 0 _ _ _ (by omega) (by omega) (fun d hd => by omega) hX (lv_sub hl [1, 2, 0] rfl)
set_option maxRecDepth 100000 in
theorem k_X1_depthOf {p : Program} {l : Launch} {e : Env} {R : Room} {s : State} {m : MethodId} {args : Array Value} {below : List Frame} {meth : Method} {c : Code} {H : Heap} {locs : List Loc} {cells slots : Nat} {Q : State → Prop} {cc : ByteArray} {pc : Nat} {ls : Array Slot} {rest : List Value} {nL : Nat} {D : va_G} {A : Nat → Prop} {h : Nat → Nat} {cs : Nat → ClassId} {T : Nat → Bool} {V : Nat → Int32} {C : Nat → Nat} {j : Nat} (F : CallFix p m c cc nL s args lw_all RX1) (hj : j < 256) (hX : wX D (mdT cs) A s (mdW h cs (T, V, C)) H locs) (hR : 3 ≤ R.frames ∧ 67 ≤ R.locals) (hcs : cells ≤ R.cells ∧ slots ≤ R.slots) (hls : ls.size = nL) (hrest : (rest.map fun v => v.category).sum ≤ 8) (hdg : decode cc pc = .ok (.invokevirtual 49, 3)) (kk : ∀ (r : Int32) (u : MD) (H1 : Heap) (locs1 : List Loc), (∃ d C2, d ≤ 8 ∧ iB T j d = true ∧ r = nI d ∧ u = (T, V, C2) ∧ cOK T C2) → wX D (mdT cs) A s (mdW h cs u) H1 locs1 → W p l e R s m args below meth c H1 locs1 cells slots Q (F0 m (pc + 3) ls (.int r :: rest))) : W p l e R s m args below meth c H locs cells slots Q (F0 m pc ls (.int (nI j) :: .ref (h 0) :: rest)) :=
  c_calli (C := RX1) (As := [.int (nI j)]) (rest := rest) F (m_X1_depthOf l D h cs hj) q224 q217 q218 q14 q219 (n := 1) rfl (by decide +kernel) ⟨hR.1, by have := hR.2; exact this⟩ rfl rfl hX (ci := 1) rfl rfl rfl rfl hls hrest hcs hdg (kk)
set_option maxHeartbeats 4000000 in
set_option maxRecDepth 100000 in
/-- depthOf(no key) -/
theorem m_X1_depthOfX (l : Launch) (D : va_G) (h : Nat → Nat) (cs : Nat → ClassId) {T : Nat → Bool} {V : Nat → Int32} {C : Nat → Nat} {k : Int32} (hk : kB k = false) : cI l yX1_depthOf cX1_depthOf 3 (some .int) ({ frames := 2, cells := 0, slots := 0, locals := 45 } : Room) D (mdT cs) (mdW h cs (T, V, C)) [.ref (h 0), .int k] (mdW h cs) (fun (r : Int32) (u : MD) => r = -1 ∧ ∃ C2, u = (T, V, C2)) := by
  refine c_int (own := RX1) (by decide) rfl (Nat.le_of_ble_eq_true rfl) ?_
  intro p e s m below meth c A Q ls R args hRm F hend hX hl
  have hl : lv_has ls 3 [(0, .ref (h 0)), (1, .int k)] := hl
  refine lv_aload_n F.1 F.2.1 dX1_depthOf_0 rfl (lv_at hl 0 rfl) ?_
  refine k_X1_count F  hX ⟨by rw [hRm]; decide, by rw [hRm]; decide⟩ ⟨Nat.zero_le _, Nat.zero_le _⟩ hl.1 (Nat.le_of_ble_eq_true rfl) dX1_depthOf_1 (fun u H locs hp hX => ?_)
  obtain ⟨C, rfl, hC⟩ := hp
  refine lv_iconst (v := nI 0) F.1 F.2.1 dX1_depthOf_4 (by decide +kernel) ?_
  refine lv_istore_n (lv' := [(2, .int _), (0, .ref _), (1, .int _)]) F.1 F.2.1 dX1_depthOf_5 rfl hl (by decide) rfl (fun ls hl => ?_)
  refine lv_iload_n F.1 F.2.1 dX1_depthOf_6 rfl (lv_at hl 0 rfl) ?_
  refine lv_bipush (v := nI 8) F.1 F.2.1 dX1_depthOf_7 (by decide +kernel) ?_
  refine nv_icmp_gt (tgt := 37) F dX1_depthOf_9 (by decide) (by omega) (by omega) (fun c9 => ?_) (fun c9 => ?_)
  · exact absurd c9 (by omega)
  · refine lv_aload_n F.1 F.2.1 dX1_depthOf_12 rfl (lv_at hl 1 rfl) ?_
    refine lv_iload_n F.1 F.2.1 dX1_depthOf_13 rfl (lv_at hl 2 rfl) ?_
    refine k_X1_key F  hX ⟨by rw [hRm]; decide, by rw [hRm]; decide⟩ ⟨Nat.zero_le _, Nat.zero_le _⟩ hl.1 (Nat.le_of_ble_eq_true rfl) dX1_depthOf_14 (fun H locs hX => ?_)
    refine nv_ifB_eq (tgt := 37) F dX1_depthOf_17 (by decide) (fun c17 => ?_) (fun c17 => ?_)
    · refine lv_iconst (v := -1) F.1 F.2.1 dX1_depthOf_37 (by decide +kernel) ?_
      exact hend _ _ _ _ _ _ ⟨rfl, _, rfl⟩ hX dX1_depthOf_38
    · rw [hk] at c17
      cases c17
set_option maxRecDepth 100000 in
theorem k_X1_depthOfX {p : Program} {l : Launch} {e : Env} {R : Room} {s : State} {m : MethodId} {args : Array Value} {below : List Frame} {meth : Method} {c : Code} {H : Heap} {locs : List Loc} {cells slots : Nat} {Q : State → Prop} {cc : ByteArray} {pc : Nat} {ls : Array Slot} {rest : List Value} {nL : Nat} {D : va_G} {A : Nat → Prop} {h : Nat → Nat} {cs : Nat → ClassId} {T : Nat → Bool} {V : Nat → Int32} {C : Nat → Nat} {k : Int32} (F : CallFix p m c cc nL s args lw_all RX1) (hk : kB k = false) (hX : wX D (mdT cs) A s (mdW h cs (T, V, C)) H locs) (hR : 3 ≤ R.frames ∧ 67 ≤ R.locals) (hcs : cells ≤ R.cells ∧ slots ≤ R.slots) (hls : ls.size = nL) (hrest : (rest.map fun v => v.category).sum ≤ 8) (hdg : decode cc pc = .ok (.invokevirtual 49, 3)) (kk : ∀ (r : Int32) (u : MD) (H1 : Heap) (locs1 : List Loc), (r = -1 ∧ ∃ C2, u = (T, V, C2)) → wX D (mdT cs) A s (mdW h cs u) H1 locs1 → W p l e R s m args below meth c H1 locs1 cells slots Q (F0 m (pc + 3) ls (.int r :: rest))) : W p l e R s m args below meth c H locs cells slots Q (F0 m pc ls (.int k :: .ref (h 0) :: rest)) :=
  c_calli (C := RX1) (As := [.int k]) (rest := rest) F (m_X1_depthOfX l D h cs hk) q224 q217 q218 q14 q219 (n := 1) rfl (by decide +kernel) ⟨hR.1, by have := hR.2; exact this⟩ rfl rfl hX (ci := 1) rfl rfl rfl rfl hls hrest hcs hdg (kk)
end
section
/-! walks of SplitDirectoryModel: load, inBucket, together, next, put, remove, growth -/
/-- the keys in one bucket -/
def iP (T : Nat → Bool) (j d : Nat) (t : Nat) : Bool := T t && (t % 2 ^ d == j % 2 ^ d)
def inR (T : Nat → Bool) (j d : Nat) (k r : Int32) : Prop := (∃ t, t < 256 ∧ iP T j d t = true ∧ nI (cN (iP T j d) t) = k ∧ r = nI t) ∨ ((∀ t, t < 256 → iP T j d t = true → nI (cN (iP T j d) t) ≠ k) ∧ r = -1)
def neR (T : Nat → Bool) (k r : Int32) : Prop := (∃ t, t < 256 ∧ T t = true ∧ k ≤ nI t ∧ (∀ t', t' < t → T t' = true → ¬ k ≤ nI t') ∧ r = nI t) ∨ ((∀ t, t < 256 → T t = true → ¬ k ≤ nI t) ∧ r = -1)
theorem up_same {α : Type} (f : Nat → α) (k : Nat) (v : α) : va_up (va_up f k v) k (f k) = f := by
  rw [bx_uu]
  funext i
  unfold va_up
  split
  · rename_i q
    rw [q]
  · rfl
set_option maxHeartbeats 4000000 in
set_option maxRecDepth 100000 in
/-- load(a key) -/
theorem m_X1_load (l : Launch) (D : va_G) (h : Nat → Nat) (cs : Nat → ClassId) {T : Nat → Bool} {V : Nat → Int32} {C : Nat → Nat} {j : Nat} (hj : j < 256) : cI l yX1_load cX1_load 3 (some .int) ({ frames := 3, cells := 0, slots := 0, locals := 67 } : Room) D (mdT cs) (mdW h cs (T, V, C)) [.ref (h 0), .int (nI j)] (mdW h cs) (fun (r : Int32) (u : MD) => ∃ d C2, d ≤ 8 ∧ iB T j d = true ∧ r = nI (ct T j d) ∧ u = (T, V, C2)) := by
  refine c_int (own := RX1) (by decide) rfl (Nat.le_of_ble_eq_true rfl) ?_
  intro p e s m below meth c A Q ls R args hRm F hend hX hl
  have hl : lv_has ls 3 [(0, .ref (h 0)), (1, .int (nI j))] := hl
  refine lv_aload_n F.1 F.2.1 dX1_load_0 rfl (lv_at hl 0 rfl) ?_
  refine lv_iload_n F.1 F.2.1 dX1_load_1 rfl (lv_at hl 1 rfl) ?_
  refine k_X1_depthOf F hj hX ⟨by rw [hRm]; decide, by rw [hRm]; decide⟩ ⟨Nat.zero_le _, Nat.zero_le _⟩ hl.1 (Nat.le_of_ble_eq_true rfl) dX1_load_2 (fun r u H locs hp hX => ?_)
  obtain ⟨d, C, hd, hB, rfl, rfl, hC⟩ := hp
  refine lv_istore_n (lv' := [(2, .int _), (0, .ref _), (1, .int _)]) F.1 F.2.1 dX1_load_5 rfl hl (by decide) rfl (fun ls hl => ?_)
  refine lv_iload_n F.1 F.2.1 dX1_load_6 rfl (lv_at hl 0 rfl) ?_
  refine nv_if_ge (tgt := 14) F dX1_load_7 (by decide) (by omega) ?_
  refine lv_aload_n F.1 F.2.1 dX1_load_14 rfl (lv_at hl 1 rfl) ?_
  refine g_md_C F hX dX1_load_15 ?_
  refine lv_aload_n F.1 F.2.1 dX1_load_18 rfl (lv_at hl 1 rfl) ?_
  refine lv_iload_n F.1 F.2.1 dX1_load_19 rfl (lv_at hl 2 rfl) ?_
  refine lv_iload_n F.1 F.2.1 dX1_load_20 rfl (lv_at hl 0 rfl) ?_
  refine k_X1_ending F (by omega) hd hX ⟨by rw [hRm]; decide, by rw [hRm]; decide⟩ ⟨Nat.zero_le _, Nat.zero_le _⟩ hl.1 (Nat.le_of_ble_eq_true rfl) dX1_load_21 (fun H locs hX => ?_)
  refine ld_md_C F hX (ix_lt hd) dX1_load_24 ?_
  rw [hC d hd j]
  exact hend _ _ _ _ _ _ ⟨d, _, hd, hB, rfl, rfl⟩ hX dX1_load_25
set_option maxHeartbeats 4000000 in
set_option maxRecDepth 100000 in
/-- load(no key) -/
theorem m_X1_loadX (l : Launch) (D : va_G) (h : Nat → Nat) (cs : Nat → ClassId) {T : Nat → Bool} {V : Nat → Int32} {C : Nat → Nat} {k : Int32} (hk : kB k = false) : cI l yX1_load cX1_load 3 (some .int) ({ frames := 3, cells := 0, slots := 0, locals := 67 } : Room) D (mdT cs) (mdW h cs (T, V, C)) [.ref (h 0), .int k] (mdW h cs) (fun (r : Int32) (u : MD) => r = -1 ∧ ∃ C2, u = (T, V, C2)) := by
  refine c_int (own := RX1) (by decide) rfl (Nat.le_of_ble_eq_true rfl) ?_
  intro p e s m below meth c A Q ls R args hRm F hend hX hl
  have hl : lv_has ls 3 [(0, .ref (h 0)), (1, .int k)] := hl
  refine lv_aload_n F.1 F.2.1 dX1_load_0 rfl (lv_at hl 0 rfl) ?_
  refine lv_iload_n F.1 F.2.1 dX1_load_1 rfl (lv_at hl 1 rfl) ?_
  refine k_X1_depthOfX F hk hX ⟨by rw [hRm]; decide, by rw [hRm]; decide⟩ ⟨Nat.zero_le _, Nat.zero_le _⟩ hl.1 (Nat.le_of_ble_eq_true rfl) dX1_load_2 (fun r u H locs hp hX => ?_)
  obtain ⟨rfl, C, rfl⟩ := hp
  refine lv_istore_n (lv' := [(2, .int _), (0, .ref _), (1, .int _)]) F.1 F.2.1 dX1_load_5 rfl hl (by decide) rfl (fun ls hl => ?_)
  refine lv_iload_n F.1 F.2.1 dX1_load_6 rfl (lv_at hl 0 rfl) ?_
  refine lv_if_ge (tgt := 14) F.1 F.2.1 dX1_load_7 (by decide) (fun c7 => ?_) (fun c7 => ?_)
  · exact absurd c7 (by decide)
  · refine lv_iconst (v := -1) F.1 F.2.1 dX1_load_10 (by decide +kernel) ?_
    refine lv_goto (tgt := 25) F.1 F.2.1 dX1_load_11 (by decide) ?_
    exact hend _ _ _ _ _ _ ⟨rfl, _, rfl⟩ hX dX1_load_25
set_option maxHeartbeats 4000000 in
set_option maxRecDepth 100000 in
/-- inBucket(a key, k) -/
theorem m_X1_inBucket (l : Launch) (D : va_G) (h : Nat → Nat) (cs : Nat → ClassId) {T : Nat → Bool} {V : Nat → Int32} {C : Nat → Nat} {j : Nat} {k : Int32} (hj : j < 256) : cI l yX1_inBucket cX1_inBucket 6 (some .int) ({ frames := 3, cells := 0, slots := 0, locals := 67 } : Room) D (mdT cs) (mdW h cs (T, V, C)) [.ref (h 0), .int (nI j), .int k] (mdW h cs) (fun (r : Int32) (u : MD) => ∃ d C2, d ≤ 8 ∧ iB T j d = true ∧ inR T j d k r ∧ u = (T, V, C2)) := by
  refine c_int (own := RX1) (by decide) rfl (Nat.le_of_ble_eq_true rfl) ?_
  intro p e s m below meth c A Q ls R args hRm F hend hX hl
  have hl : lv_has ls 6 [(0, .ref (h 0)), (1, .int (nI j)), (2, .int k)] := hl
  refine lv_aload_n F.1 F.2.1 dX1_inBucket_0 rfl (lv_at hl 0 rfl) ?_
  refine lv_iload_n F.1 F.2.1 dX1_inBucket_1 rfl (lv_at hl 1 rfl) ?_
  refine k_X1_depthOf F hj hX ⟨by rw [hRm]; decide, by rw [hRm]; decide⟩ ⟨Nat.zero_le _, Nat.zero_le _⟩ hl.1 (Nat.le_of_ble_eq_true rfl) dX1_inBucket_2 (fun r u H locs hp hX => ?_)
  obtain ⟨d, C, hd, hB, rfl, rfl, hC⟩ := hp
  have loop : ∀ (n i : Nat) (H : Heap) (locs : List Loc) (ls : Array Slot), 257 ≤ i + n → i ≤ 256 → (∀ t, t < i → iP T j d t = true → nI (cN (iP T j d) t) ≠ k) → wX D (mdT cs) A s (mdW h cs (T, V, C)) H locs → lv_has ls 6 [(0, .ref (h 0)), (1, .int (nI j)), (2, .int k), (3, .int (nI d)), (4, .int (nI (cN (iP T j d) i))), (5, .int (nI i))] → W p l e R s m args below meth c H locs 0 0 Q (F0 m 12 ls []) := by
    intro n
    induction n with
    | zero => intro i H locs ls h1 h2; omega
    | succ n ih =>
      intro i H locs ls hn hi hI hX hl
      refine lv_iload F.1 F.2.1 dX1_inBucket_12 (lv_at hl 5 rfl) ?_
      refine lv_sipush (v := nI 256) F.1 F.2.1 dX1_inBucket_14 (by decide +kernel) ?_
      refine nv_icmp_ge (tgt := 68) F dX1_inBucket_17 (by decide) (by omega) (by omega) (fun c17 => ?_) (fun c17 => ?_)
      · refine lv_iconst (v := -1) F.1 F.2.1 dX1_inBucket_68 (by decide +kernel) ?_
        exact hend _ _ _ _ _ _ ⟨d, _, hd, hB, Or.inr ⟨fun t ht hPt => hI t (by omega) hPt, rfl⟩, rfl⟩ hX dX1_inBucket_69
      · refine lv_iload_n F.1 F.2.1 dX1_inBucket_20 rfl (lv_at hl 3 rfl) ?_
        refine nv_if_lt (tgt := 68) F dX1_inBucket_21 (by decide) (by omega) ?_
        refine lv_aload_n F.1 F.2.1 dX1_inBucket_24 rfl (lv_at hl 0 rfl) ?_
        refine g_md_T F hX dX1_inBucket_25 ?_
        refine lv_iload F.1 F.2.1 dX1_inBucket_28 (lv_at hl 5 rfl) ?_
        refine ld_md_T F hX (by omega) dX1_inBucket_30 ?_
        refine nv_ifB_eq (tgt := 62) F dX1_inBucket_31 (by decide) (fun c31 => ?_) (fun c31 => ?_)
        · have hP : iP T j d i = false := by unfold iP; rw [c31]; rfl
          have hE := cN_F (p := iP T j d) hP
          have hI2 : ∀ t, t < i + 1 → iP T j d t = true → nI (cN (iP T j d) t) ≠ k := fun t ht hPt => by
            rcases Nat.lt_or_ge t i with q | q
            · exact hI t q hPt
            · rw [show t = i by omega, hP] at hPt
              cases hPt
          refine nv_iinc (lv' := [(5, .int _), (0, .ref _), (1, .int _), (2, .int _), (3, .int _), (4, .int _)]) F dX1_inBucket_62 hl (k := 5) rfl (by decide) rfl (fun ls hl => ?_)
          refine lv_goto (tgt := 12) F.1 F.2.1 dX1_inBucket_65 (by decide) ?_
          exact ih (i + 1) _ _ _ (by omega) (by omega) hI2 hX (by rw [hE]; exact (lv_sub hl [1, 2, 3, 4, 5, 0] rfl))
        · refine lv_aload_n F.1 F.2.1 dX1_inBucket_34 rfl (lv_at hl 0 rfl) ?_
          refine lv_iload F.1 F.2.1 dX1_inBucket_35 (lv_at hl 5 rfl) ?_
          refine lv_iload_n F.1 F.2.1 dX1_inBucket_37 rfl (lv_at hl 3 rfl) ?_
          refine k_X1_ending F (by omega) hd hX ⟨by rw [hRm]; decide, by rw [hRm]; decide⟩ ⟨Nat.zero_le _, Nat.zero_le _⟩ hl.1 (Nat.le_of_ble_eq_true rfl) dX1_inBucket_38 (fun H locs hX => ?_)
          refine lv_aload_n F.1 F.2.1 dX1_inBucket_41 rfl (lv_at hl 0 rfl) ?_
          refine lv_iload_n F.1 F.2.1 dX1_inBucket_42 rfl (lv_at hl 1 rfl) ?_
          refine lv_iload_n F.1 F.2.1 dX1_inBucket_43 rfl (lv_at hl 3 rfl) ?_
          refine k_X1_ending F (by omega) hd hX ⟨by rw [hRm]; decide, by rw [hRm]; decide⟩ ⟨Nat.zero_le _, Nat.zero_le _⟩ hl.1 (Nat.le_of_ble_eq_true rfl) dX1_inBucket_44 (fun H locs hX => ?_)
          have hx1 := ix_lt (r := i) hd
          have hx2 := ix_lt (r := j) hd
          refine nv_icmp_ne (tgt := 62) F dX1_inBucket_47 (by decide) (by omega) (by omega) (fun c47 => ?_) (fun c47 => ?_)
          · have hP : iP T j d i = false := by
              unfold iP
              have : ¬ i % 2 ^ d = j % 2 ^ d := fun q => c47 (by rw [q])
              simp [this]
            have hE := cN_F (p := iP T j d) hP
            have hI2 : ∀ t, t < i + 1 → iP T j d t = true → nI (cN (iP T j d) t) ≠ k := fun t ht hPt => by
              rcases Nat.lt_or_ge t i with q | q
              · exact hI t q hPt
              · rw [show t = i by omega, hP] at hPt
                cases hPt
            refine nv_iinc (lv' := [(5, .int _), (0, .ref _), (1, .int _), (2, .int _), (3, .int _), (4, .int _)]) F dX1_inBucket_62 hl (k := 5) rfl (by decide) rfl (fun ls hl => ?_)
            refine lv_goto (tgt := 12) F.1 F.2.1 dX1_inBucket_65 (by decide) ?_
            exact ih (i + 1) _ _ _ (by omega) (by omega) hI2 hX (by rw [hE]; exact (lv_sub hl [1, 2, 3, 4, 5, 0] rfl))
          · have hP : iP T j d i = true := by
              unfold iP
              rw [c31, (ix_inj c47).2]
              simp
            have hE := cN_T (p := iP T j d) hP
            refine lv_iload F.1 F.2.1 dX1_inBucket_50 (lv_at hl 4 rfl) ?_
            refine lv_iload_n F.1 F.2.1 dX1_inBucket_52 rfl (lv_at hl 2 rfl) ?_
            refine lv_icmp_ne (tgt := 59) F.1 F.2.1 dX1_inBucket_53 (by decide) (fun c53 => ?_) (fun c53 => ?_)
            · have hI2 : ∀ t, t < i + 1 → iP T j d t = true → nI (cN (iP T j d) t) ≠ k := fun t ht hPt => by
                rcases Nat.lt_or_ge t i with q | q
                · exact hI t q hPt
                · rw [show t = i by omega]
                  exact c53
              refine nv_iinc (lv' := [(4, .int _), (0, .ref _), (1, .int _), (2, .int _), (3, .int _), (5, .int _)]) F dX1_inBucket_59 hl (k := 4) rfl (by decide) rfl (fun ls hl => ?_)
              refine nv_iinc (lv' := [(5, .int _), (4, .int _), (0, .ref _), (1, .int _), (2, .int _), (3, .int _)]) F dX1_inBucket_62 hl (k := 5) rfl (by decide) rfl (fun ls hl => ?_)
              refine lv_goto (tgt := 12) F.1 F.2.1 dX1_inBucket_65 (by decide) ?_
              exact ih (i + 1) _ _ _ (by omega) (by omega) hI2 hX (by rw [hE]; exact (lv_sub hl [2, 3, 4, 5, 1, 0] rfl))
            · refine lv_iload F.1 F.2.1 dX1_inBucket_56 (lv_at hl 5 rfl) ?_
              exact hend _ _ _ _ _ _ ⟨d, _, hd, hB, Or.inl ⟨i, c17, hP, c53, rfl⟩, rfl⟩ hX dX1_inBucket_58
  refine lv_istore_n (lv' := [(3, .int _), (0, .ref _), (1, .int _), (2, .int _)]) F.1 F.2.1 dX1_inBucket_5 rfl hl (by decide) rfl (fun ls hl => ?_)
  refine lv_iconst (v := nI 0) F.1 F.2.1 dX1_inBucket_6 (by decide +kernel) ?_
  refine lv_istore (lv' := [(4, .int _), (3, .int _), (0, .ref _), (1, .int _), (2, .int _)]) F.1 F.2.1 dX1_inBucket_7 hl (by decide) rfl (fun ls hl => ?_)
  refine lv_iconst (v := nI 0) F.1 F.2.1 dX1_inBucket_9 (by decide +kernel) ?_
  refine lv_istore (lv' := [(5, .int _), (4, .int _), (3, .int _), (0, .ref _), (1, .int _), (2, .int _)]) F.1 F.2.1 dX1_inBucket_10 hl (by decide) rfl (fun ls hl => ?_)
  exact loop 257 0 _ _ _ (by omega) (by omega) (fun t ht => by omega) hX (lv_sub hl [3, 4, 5, 2, 1, 0] rfl)
set_option maxHeartbeats 4000000 in
set_option maxRecDepth 100000 in
/-- inBucket(no key, ..) -/
theorem m_X1_inBucketX (l : Launch) (D : va_G) (h : Nat → Nat) (cs : Nat → ClassId) {T : Nat → Bool} {V : Nat → Int32} {C : Nat → Nat} {k k2 : Int32} (hk : kB k = false) : cI l yX1_inBucket cX1_inBucket 6 (some .int) ({ frames := 3, cells := 0, slots := 0, locals := 67 } : Room) D (mdT cs) (mdW h cs (T, V, C)) [.ref (h 0), .int k, .int k2] (mdW h cs) (fun (r : Int32) (u : MD) => r = -1 ∧ ∃ C2, u = (T, V, C2)) := by
  refine c_int (own := RX1) (by decide) rfl (Nat.le_of_ble_eq_true rfl) ?_
  intro p e s m below meth c A Q ls R args hRm F hend hX hl
  have hl : lv_has ls 6 [(0, .ref (h 0)), (1, .int k), (2, .int k2)] := hl
  refine lv_aload_n F.1 F.2.1 dX1_inBucket_0 rfl (lv_at hl 0 rfl) ?_
  refine lv_iload_n F.1 F.2.1 dX1_inBucket_1 rfl (lv_at hl 1 rfl) ?_
  refine k_X1_depthOfX F hk hX ⟨by rw [hRm]; decide, by rw [hRm]; decide⟩ ⟨Nat.zero_le _, Nat.zero_le _⟩ hl.1 (Nat.le_of_ble_eq_true rfl) dX1_inBucket_2 (fun r u H locs hp hX => ?_)
  obtain ⟨rfl, C, rfl⟩ := hp
  refine lv_istore_n (lv' := [(3, .int _), (0, .ref _), (1, .int _), (2, .int _)]) F.1 F.2.1 dX1_inBucket_5 rfl hl (by decide) rfl (fun ls hl => ?_)
  refine lv_iconst (v := nI 0) F.1 F.2.1 dX1_inBucket_6 (by decide +kernel) ?_
  refine lv_istore (lv' := [(4, .int _), (3, .int _), (0, .ref _), (1, .int _), (2, .int _)]) F.1 F.2.1 dX1_inBucket_7 hl (by decide) rfl (fun ls hl => ?_)
  refine lv_iconst (v := nI 0) F.1 F.2.1 dX1_inBucket_9 (by decide +kernel) ?_
  refine lv_istore (lv' := [(5, .int _), (4, .int _), (3, .int _), (0, .ref _), (1, .int _), (2, .int _)]) F.1 F.2.1 dX1_inBucket_10 hl (by decide) rfl (fun ls hl => ?_)
  refine lv_iload F.1 F.2.1 dX1_inBucket_12 (lv_at hl 0 rfl) ?_
  refine lv_sipush (v := nI 256) F.1 F.2.1 dX1_inBucket_14 (by decide +kernel) ?_
  refine nv_icmp_ge (tgt := 68) F dX1_inBucket_17 (by decide) (by omega) (by omega) (fun c17 => ?_) (fun c17 => ?_)
  · exact absurd c17 (by decide)
  · refine lv_iload_n F.1 F.2.1 dX1_inBucket_20 rfl (lv_at hl 2 rfl) ?_
    refine lv_if_lt (tgt := 68) F.1 F.2.1 dX1_inBucket_21 (by decide) (fun c21 => ?_) (fun c21 => ?_)
    · refine lv_iconst (v := -1) F.1 F.2.1 dX1_inBucket_68 (by decide +kernel) ?_
      exact hend _ _ _ _ _ _ ⟨rfl, _, rfl⟩ hX dX1_inBucket_69
    · exact absurd (by decide) c21
set_option maxHeartbeats 4000000 in
set_option maxRecDepth 100000 in
/-- together(a key, k) -/
theorem m_X1_together (l : Launch) (D : va_G) (h : Nat → Nat) (cs : Nat → ClassId) {T : Nat → Bool} {V : Nat → Int32} {C : Nat → Nat} {j : Nat} {k : Int32} (hj : j < 256) : cI l yX1_together cX1_together 4 (some .boolean) ({ frames := 3, cells := 0, slots := 0, locals := 67 } : Room) D (mdT cs) (mdW h cs (T, V, C)) [.ref (h 0), .int (nI j), .int k] (mdW h cs) (fun (r : Int32) (u : MD) => ∃ z : Bool, r = nI z.toNat ∧ ∃ d C2, d ≤ 8 ∧ iB T j d = true ∧ z = (kB k && (k.toNatClampNeg % 2 ^ d == j % 2 ^ d)) ∧ u = (T, V, C2)) := by
  refine c_bool (post := fun (z : Bool) (u : MD) => ∃ d C2, d ≤ 8 ∧ iB T j d = true ∧ z = (kB k && (k.toNatClampNeg % 2 ^ d == j % 2 ^ d)) ∧ u = (T, V, C2)) (own := RX1) (by decide) rfl (Nat.le_of_ble_eq_true rfl) ?_
  intro p e s m below meth c A Q ls R args hRm F hend hX hl
  have hl : lv_has ls 4 [(0, .ref (h 0)), (1, .int (nI j)), (2, .int k)] := hl
  refine lv_aload_n F.1 F.2.1 dX1_together_0 rfl (lv_at hl 0 rfl) ?_
  refine lv_iload_n F.1 F.2.1 dX1_together_1 rfl (lv_at hl 1 rfl) ?_
  refine k_X1_depthOf F hj hX ⟨by rw [hRm]; decide, by rw [hRm]; decide⟩ ⟨Nat.zero_le _, Nat.zero_le _⟩ hl.1 (Nat.le_of_ble_eq_true rfl) dX1_together_2 (fun r u H locs hp hX => ?_)
  obtain ⟨d, C, hd, hB, rfl, rfl, hC⟩ := hp
  refine lv_istore_n (lv' := [(3, .int _), (0, .ref _), (1, .int _), (2, .int _)]) F.1 F.2.1 dX1_together_5 rfl hl (by decide) rfl (fun ls hl => ?_)
  refine lv_iload_n F.1 F.2.1 dX1_together_6 rfl (lv_at hl 0 rfl) ?_
  refine nv_if_lt (tgt := 37) F dX1_together_7 (by decide) (by omega) ?_
  refine lv_aload_n F.1 F.2.1 dX1_together_10 rfl (lv_at hl 1 rfl) ?_
  refine lv_iload_n F.1 F.2.1 dX1_together_11 rfl (lv_at hl 3 rfl) ?_
  refine k_X1_key F  hX ⟨by rw [hRm]; decide, by rw [hRm]; decide⟩ ⟨Nat.zero_le _, Nat.zero_le _⟩ hl.1 (Nat.le_of_ble_eq_true rfl) dX1_together_12 (fun H locs hX => ?_)
  refine nv_ifB_eq (tgt := 37) F dX1_together_15 (by decide) (fun c15 => ?_) (fun c15 => ?_)
  · have hz : (false : Bool) = (kB k && (k.toNatClampNeg % 2 ^ d == j % 2 ^ d)) := by rw [c15]; rfl
    refine lv_iconst (v := nI (false).toNat) F.1 F.2.1 dX1_together_37 (by decide +kernel) ?_
    exact hend _ _ false _ _ _ ⟨d, _, hd, hB, hz, rfl⟩ hX dX1_together_38
  · obtain ⟨j2, hj2, rfl⟩ := kB_of c15
    refine lv_aload_n F.1 F.2.1 dX1_together_18 rfl (lv_at hl 1 rfl) ?_
    refine lv_iload_n F.1 F.2.1 dX1_together_19 rfl (lv_at hl 2 rfl) ?_
    refine lv_iload_n F.1 F.2.1 dX1_together_20 rfl (lv_at hl 0 rfl) ?_
    refine k_X1_ending F (by omega) hd hX ⟨by rw [hRm]; decide, by rw [hRm]; decide⟩ ⟨Nat.zero_le _, Nat.zero_le _⟩ hl.1 (Nat.le_of_ble_eq_true rfl) dX1_together_21 (fun H locs hX => ?_)
    refine lv_aload_n F.1 F.2.1 dX1_together_24 rfl (lv_at hl 1 rfl) ?_
    refine lv_iload_n F.1 F.2.1 dX1_together_25 rfl (lv_at hl 3 rfl) ?_
    refine lv_iload_n F.1 F.2.1 dX1_together_26 rfl (lv_at hl 0 rfl) ?_
    refine k_X1_ending F (by omega) hd hX ⟨by rw [hRm]; decide, by rw [hRm]; decide⟩ ⟨Nat.zero_le _, Nat.zero_le _⟩ hl.1 (Nat.le_of_ble_eq_true rfl) dX1_together_27 (fun H locs hX => ?_)
    have hx1 := ix_lt (r := j) hd
    have hx2 := ix_lt (r := j2) hd
    refine nv_icmp_ne (tgt := 37) F dX1_together_30 (by decide) (by omega) (by omega) (fun c30 => ?_) (fun c30 => ?_)
    · have hz : (false : Bool) = (kB (nI j2) && ((nI j2).toNatClampNeg % 2 ^ d == j % 2 ^ d)) := by
        rw [c15, nI_clamp (by omega)]
        have : ¬ j2 % 2 ^ d = j % 2 ^ d := fun q => c30 (by rw [q])
        simp [this]
      refine lv_iconst (v := nI (false).toNat) F.1 F.2.1 dX1_together_37 (by decide +kernel) ?_
      exact hend _ _ false _ _ _ ⟨d, _, hd, hB, hz, rfl⟩ hX dX1_together_38
    · have hz : (true : Bool) = (kB (nI j2) && ((nI j2).toNatClampNeg % 2 ^ d == j % 2 ^ d)) := by
        rw [c15, nI_clamp (by omega), (ix_inj c30).2]
        simp
      refine lv_iconst (v := nI (true).toNat) F.1 F.2.1 dX1_together_33 (by decide +kernel) ?_
      refine lv_goto (tgt := 38) F.1 F.2.1 dX1_together_34 (by decide) ?_
      exact hend _ _ true _ _ _ ⟨d, _, hd, hB, hz, rfl⟩ hX dX1_together_38
set_option maxHeartbeats 4000000 in
set_option maxRecDepth 100000 in
/-- together(no key, ..) -/
theorem m_X1_togetherX (l : Launch) (D : va_G) (h : Nat → Nat) (cs : Nat → ClassId) {T : Nat → Bool} {V : Nat → Int32} {C : Nat → Nat} {k k2 : Int32} (hk : kB k = false) : cI l yX1_together cX1_together 4 (some .boolean) ({ frames := 3, cells := 0, slots := 0, locals := 67 } : Room) D (mdT cs) (mdW h cs (T, V, C)) [.ref (h 0), .int k, .int k2] (mdW h cs) (fun (r : Int32) (u : MD) => ∃ z : Bool, r = nI z.toNat ∧ z = false ∧ ∃ C2, u = (T, V, C2)) := by
  refine c_bool (post := fun (z : Bool) (u : MD) => z = false ∧ ∃ C2, u = (T, V, C2)) (own := RX1) (by decide) rfl (Nat.le_of_ble_eq_true rfl) ?_
  intro p e s m below meth c A Q ls R args hRm F hend hX hl
  have hl : lv_has ls 4 [(0, .ref (h 0)), (1, .int k), (2, .int k2)] := hl
  refine lv_aload_n F.1 F.2.1 dX1_together_0 rfl (lv_at hl 0 rfl) ?_
  refine lv_iload_n F.1 F.2.1 dX1_together_1 rfl (lv_at hl 1 rfl) ?_
  refine k_X1_depthOfX F hk hX ⟨by rw [hRm]; decide, by rw [hRm]; decide⟩ ⟨Nat.zero_le _, Nat.zero_le _⟩ hl.1 (Nat.le_of_ble_eq_true rfl) dX1_together_2 (fun r u H locs hp hX => ?_)
  obtain ⟨rfl, C, rfl⟩ := hp
  refine lv_istore_n (lv' := [(3, .int _), (0, .ref _), (1, .int _), (2, .int _)]) F.1 F.2.1 dX1_together_5 rfl hl (by decide) rfl (fun ls hl => ?_)
  refine lv_iload_n F.1 F.2.1 dX1_together_6 rfl (lv_at hl 0 rfl) ?_
  refine lv_if_lt (tgt := 37) F.1 F.2.1 dX1_together_7 (by decide) (fun c7 => ?_) (fun c7 => ?_)
  · refine lv_iconst (v := nI (false).toNat) F.1 F.2.1 dX1_together_37 (by decide +kernel) ?_
    exact hend _ _ false _ _ _ ⟨rfl, _, rfl⟩ hX dX1_together_38
  · exact absurd (by decide) c7
set_option maxHeartbeats 4000000 in
set_option maxRecDepth 100000 in
/-- next(k) -/
theorem m_X1_next (l : Launch) (D : va_G) (h : Nat → Nat) (cs : Nat → ClassId) {T : Nat → Bool} {V : Nat → Int32} {C : Nat → Nat} {k : Int32}  : cI l yX1_next cX1_next 3 (some .int) ({ frames := 0, cells := 0, slots := 0, locals := 0 } : Room) D (mdT cs) (mdW h cs (T, V, C)) [.ref (h 0), .int k] (mdW h cs) (fun (r : Int32) (u : MD) => u = (T, V, C) ∧ neR T k r) := by
  refine c_int (own := RX1) (by decide) rfl (Nat.le_of_ble_eq_true rfl) ?_
  intro p e s m below meth c A Q ls R args hRm F hend hX hl
  have hl : lv_has ls 3 [(0, .ref (h 0)), (1, .int k)] := hl
  have loop : ∀ (n i : Nat) (H : Heap) (locs : List Loc) (ls : Array Slot), 257 ≤ i + n → i ≤ 256 → (∀ t, t < i → T t = true → ¬ k ≤ nI t) → wX D (mdT cs) A s (mdW h cs (T, V, C)) H locs → lv_has ls 3 [(0, .ref (h 0)), (1, .int k), (2, .int (nI i))] → W p l e R s m args below meth c H locs 0 0 Q (F0 m 2 ls []) := by
    intro n
    induction n with
    | zero => intro i H locs ls h1 h2; omega
    | succ n ih =>
      intro i H locs ls hn hi hI hX hl
      refine lv_iload_n F.1 F.2.1 dX1_next_2 rfl (lv_at hl 2 rfl) ?_
      refine lv_sipush (v := nI 256) F.1 F.2.1 dX1_next_3 (by decide +kernel) ?_
      refine nv_icmp_ge (tgt := 31) F dX1_next_6 (by decide) (by omega) (by omega) (fun c6 => ?_) (fun c6 => ?_)
      · refine lv_iconst (v := -1) F.1 F.2.1 dX1_next_31 (by decide +kernel) ?_
        exact hend _ _ _ _ _ _ ⟨rfl, Or.inr ⟨fun t ht hT => hI t (by omega) hT, rfl⟩⟩ hX dX1_next_32
      · refine lv_iload_n F.1 F.2.1 dX1_next_9 rfl (lv_at hl 2 rfl) ?_
        refine lv_iload_n F.1 F.2.1 dX1_next_10 rfl (lv_at hl 1 rfl) ?_
        refine lv_icmp_lt (tgt := 25) F.1 F.2.1 dX1_next_11 (by decide) (fun c11 => ?_) (fun c11 => ?_)
        · have hI2 : ∀ t, t < i + 1 → T t = true → ¬ k ≤ nI t := fun t ht hT => by
            rcases Nat.lt_or_ge t i with q | q
            · exact hI t q hT
            · have hti : t = i := by omega
              subst hti
              intro q2
              exact absurd q2 (by grind)
          refine nv_iinc (lv' := [(2, .int _), (0, .ref _), (1, .int _)]) F dX1_next_25 hl (k := 2) rfl (by decide) rfl (fun ls hl => ?_)
          refine lv_goto (tgt := 2) F.1 F.2.1 dX1_next_28 (by decide) ?_
          exact ih (i + 1) _ _ _ (by omega) (by omega) hI2 hX (lv_sub hl [1, 2, 0] rfl)
        · refine lv_aload_n F.1 F.2.1 dX1_next_14 rfl (lv_at hl 0 rfl) ?_
          refine g_md_T F hX dX1_next_15 ?_
          refine lv_iload_n F.1 F.2.1 dX1_next_18 rfl (lv_at hl 2 rfl) ?_
          refine ld_md_T F hX (by omega) dX1_next_19 ?_
          refine nv_ifB_eq (tgt := 25) F dX1_next_20 (by decide) (fun c20 => ?_) (fun c20 => ?_)
          · have hI2 : ∀ t, t < i + 1 → T t = true → ¬ k ≤ nI t := fun t ht hT => by
              rcases Nat.lt_or_ge t i with q | q
              · exact hI t q hT
              · have hti : t = i := by omega
                subst hti
                rw [c20] at hT
                cases hT
            refine nv_iinc (lv' := [(2, .int _), (0, .ref _), (1, .int _)]) F dX1_next_25 hl (k := 2) rfl (by decide) rfl (fun ls hl => ?_)
            refine lv_goto (tgt := 2) F.1 F.2.1 dX1_next_28 (by decide) ?_
            exact ih (i + 1) _ _ _ (by omega) (by omega) hI2 hX (lv_sub hl [1, 2, 0] rfl)
          · refine lv_iload_n F.1 F.2.1 dX1_next_23 rfl (lv_at hl 2 rfl) ?_
            exact hend _ _ _ _ _ _ ⟨rfl, Or.inl ⟨i, by omega, c20, (by grind), hI, rfl⟩⟩ hX dX1_next_24
  refine lv_iconst (v := nI 0) F.1 F.2.1 dX1_next_0 (by decide +kernel) ?_
  refine lv_istore_n (lv' := [(2, .int _), (0, .ref _), (1, .int _)]) F.1 F.2.1 dX1_next_1 rfl hl (by decide) rfl (fun ls hl => ?_)
  exact loop 257 0 _ _ _ (by omega) (by omega) (fun t ht => by omega) hX (lv_sub hl [1, 2, 0] rfl)
set_option maxHeartbeats 4000000 in
set_option maxRecDepth 100000 in
/-- put(k, v) -/
theorem m_X1_put (l : Launch) (D : va_G) (h : Nat → Nat) (cs : Nat → ClassId) {T : Nat → Bool} {V : Nat → Int32} {C : Nat → Nat} {k v : Int32}  : cI l yX1_put cX1_put 3 (some .int) ({ frames := 4, cells := 0, slots := 0, locals := 90 } : Room) D (mdT cs) (mdW h cs (T, V, C)) [.ref (h 0), .int k, .int v] (mdW h cs) (fun (r : Int32) (u : MD) => (kB k = false ∧ r = -1 ∧ ∃ C2, u = (T, V, C2)) ∨ ∃ j, j < 256 ∧ k = nI j ∧ ((T j = false ∧ 40 ≤ cN T 256 ∧ r = -2 ∧ ∃ C2, u = (T, V, C2)) ∨ (¬ (T j = false ∧ 40 ≤ cN T 256) ∧ r = nI (bk (va_up T j true)) ∧ ∃ C2, u = (va_up T j true, va_up V j v, C2)))) := by
  refine c_int (own := RX1) (by decide) rfl (Nat.le_of_ble_eq_true rfl) ?_
  intro p e s m below meth c A Q ls R args hRm F hend hX hl
  have hl : lv_has ls 3 [(0, .ref (h 0)), (1, .int k), (2, .int v)] := hl
  refine lv_aload_n F.1 F.2.1 dX1_put_0 rfl (lv_at hl 0 rfl) ?_
  refine lv_iload_n F.1 F.2.1 dX1_put_1 rfl (lv_at hl 1 rfl) ?_
  refine k_X1_key F  hX ⟨by rw [hRm]; decide, by rw [hRm]; decide⟩ ⟨Nat.zero_le _, Nat.zero_le _⟩ hl.1 (Nat.le_of_ble_eq_true rfl) dX1_put_2 (fun H locs hX => ?_)
  refine nv_ifB_ne (tgt := 10) F dX1_put_5 (by decide) (fun c5 => ?_) (fun c5 => ?_)
  · obtain ⟨j, hj, rfl⟩ := kB_of c5
    refine lv_aload_n F.1 F.2.1 dX1_put_10 rfl (lv_at hl 0 rfl) ?_
    refine g_md_T F hX dX1_put_11 ?_
    refine lv_iload_n F.1 F.2.1 dX1_put_14 rfl (lv_at hl 1 rfl) ?_
    refine ld_md_T F hX (by omega) dX1_put_15 ?_
    refine nv_ifB_ne (tgt := 31) F dX1_put_16 (by decide) (fun c16 => ?_) (fun c16 => ?_)
    · have hno : ¬ (T j = false ∧ 40 ≤ cN T 256) := fun q => by rw [c16] at q; cases q.1
      refine lv_aload_n F.1 F.2.1 dX1_put_31 rfl (lv_at hl 0 rfl) ?_
      refine g_md_T F hX dX1_put_32 ?_
      refine lv_iload_n F.1 F.2.1 dX1_put_35 rfl (lv_at hl 1 rfl) ?_
      refine lv_iconst (v := nI 1) F.1 F.2.1 dX1_put_36 (by decide +kernel) ?_
      refine st_md_T (v := true) F hX (by omega) dX1_put_37 (fun H locs hX => ?_)
      refine lv_aload_n F.1 F.2.1 dX1_put_38 rfl (lv_at hl 0 rfl) ?_
      refine g_md_V F hX dX1_put_39 ?_
      refine lv_iload_n F.1 F.2.1 dX1_put_42 rfl (lv_at hl 1 rfl) ?_
      refine lv_iload_n F.1 F.2.1 dX1_put_43 rfl (lv_at hl 2 rfl) ?_
      refine st_md_V F hX (by omega) dX1_put_44 (fun H locs hX => ?_)
      refine lv_aload_n F.1 F.2.1 dX1_put_45 rfl (lv_at hl 0 rfl) ?_
      refine k_X1_buckets F  hX ⟨by rw [hRm]; decide, by rw [hRm]; decide⟩ ⟨Nat.zero_le _, Nat.zero_le _⟩ hl.1 (Nat.le_of_ble_eq_true rfl) dX1_put_46 (fun r u H locs hp hX => ?_)
      obtain ⟨⟨C2, rfl⟩, rfl⟩ := hp
      exact hend _ _ _ _ _ _ (Or.inr ⟨j, hj, rfl, Or.inr ⟨hno, rfl, _, rfl⟩⟩) hX dX1_put_49
    · refine lv_aload_n F.1 F.2.1 dX1_put_19 rfl (lv_at hl 0 rfl) ?_
      refine k_X1_size F  hX ⟨by rw [hRm]; decide, by rw [hRm]; decide⟩ ⟨Nat.zero_le _, Nat.zero_le _⟩ hl.1 (Nat.le_of_ble_eq_true rfl) dX1_put_20 (fun H locs hX => ?_)
      have hcl := cN_le T 256
      refine lv_bipush (v := nI 40) F.1 F.2.1 dX1_put_23 (by decide +kernel) ?_
      refine nv_icmp_lt (tgt := 31) F dX1_put_25 (by decide) (by omega) (by omega) (fun c25 => ?_) (fun c25 => ?_)
      · have hno : ¬ (T j = false ∧ 40 ≤ cN T 256) := fun q => by omega
        refine lv_aload_n F.1 F.2.1 dX1_put_31 rfl (lv_at hl 0 rfl) ?_
        refine g_md_T F hX dX1_put_32 ?_
        refine lv_iload_n F.1 F.2.1 dX1_put_35 rfl (lv_at hl 1 rfl) ?_
        refine lv_iconst (v := nI 1) F.1 F.2.1 dX1_put_36 (by decide +kernel) ?_
        refine st_md_T (v := true) F hX (by omega) dX1_put_37 (fun H locs hX => ?_)
        refine lv_aload_n F.1 F.2.1 dX1_put_38 rfl (lv_at hl 0 rfl) ?_
        refine g_md_V F hX dX1_put_39 ?_
        refine lv_iload_n F.1 F.2.1 dX1_put_42 rfl (lv_at hl 1 rfl) ?_
        refine lv_iload_n F.1 F.2.1 dX1_put_43 rfl (lv_at hl 2 rfl) ?_
        refine st_md_V F hX (by omega) dX1_put_44 (fun H locs hX => ?_)
        refine lv_aload_n F.1 F.2.1 dX1_put_45 rfl (lv_at hl 0 rfl) ?_
        refine k_X1_buckets F  hX ⟨by rw [hRm]; decide, by rw [hRm]; decide⟩ ⟨Nat.zero_le _, Nat.zero_le _⟩ hl.1 (Nat.le_of_ble_eq_true rfl) dX1_put_46 (fun r u H locs hp hX => ?_)
        obtain ⟨⟨C2, rfl⟩, rfl⟩ := hp
        exact hend _ _ _ _ _ _ (Or.inr ⟨j, hj, rfl, Or.inr ⟨hno, rfl, _, rfl⟩⟩) hX dX1_put_49
      · refine lv_bipush (v := -2) F.1 F.2.1 dX1_put_28 (by decide +kernel) ?_
        exact hend _ _ _ _ _ _ (Or.inr ⟨j, hj, rfl, Or.inl ⟨c16, c25, rfl, _, rfl⟩⟩) hX dX1_put_30
  · refine lv_iconst (v := -1) F.1 F.2.1 dX1_put_8 (by decide +kernel) ?_
    exact hend _ _ _ _ _ _ (Or.inl ⟨c5, rfl, _, rfl⟩) hX dX1_put_9
set_option maxHeartbeats 4000000 in
set_option maxRecDepth 100000 in
/-- remove(k) -/
theorem m_X1_remove (l : Launch) (D : va_G) (h : Nat → Nat) (cs : Nat → ClassId) {T : Nat → Bool} {V : Nat → Int32} {C : Nat → Nat} {k : Int32}  : cI l yX1_remove cX1_remove 2 (some .int) ({ frames := 4, cells := 0, slots := 0, locals := 90 } : Room) D (mdT cs) (mdW h cs (T, V, C)) [.ref (h 0), .int k] (mdW h cs) (fun (r : Int32) (u : MD) => (hasB T k = false ∧ r = -1 ∧ ∃ C2, u = (T, V, C2)) ∨ ∃ j, j < 256 ∧ k = nI j ∧ T j = true ∧ r = nI (bk (va_up T j false)) ∧ ∃ C2, u = (va_up T j false, V, C2)) := by
  refine c_int (own := RX1) (by decide) rfl (Nat.le_of_ble_eq_true rfl) ?_
  intro p e s m below meth c A Q ls R args hRm F hend hX hl
  have hl : lv_has ls 2 [(0, .ref (h 0)), (1, .int k)] := hl
  refine lv_aload_n F.1 F.2.1 dX1_remove_0 rfl (lv_at hl 0 rfl) ?_
  refine lv_iload_n F.1 F.2.1 dX1_remove_1 rfl (lv_at hl 1 rfl) ?_
  refine k_X1_has F  hX ⟨by rw [hRm]; decide, by rw [hRm]; decide⟩ ⟨Nat.zero_le _, Nat.zero_le _⟩ hl.1 (Nat.le_of_ble_eq_true rfl) dX1_remove_2 (fun H locs hX => ?_)
  refine nv_ifB_ne (tgt := 10) F dX1_remove_5 (by decide) (fun c5 => ?_) (fun c5 => ?_)
  · obtain ⟨j, hj, rfl, hT⟩ := hasB_of c5
    refine lv_aload_n F.1 F.2.1 dX1_remove_10 rfl (lv_at hl 0 rfl) ?_
    refine g_md_T F hX dX1_remove_11 ?_
    refine lv_iload_n F.1 F.2.1 dX1_remove_14 rfl (lv_at hl 1 rfl) ?_
    refine lv_iconst (v := nI 0) F.1 F.2.1 dX1_remove_15 (by decide +kernel) ?_
    refine st_md_T (v := false) F hX (by omega) dX1_remove_16 (fun H locs hX => ?_)
    refine lv_aload_n F.1 F.2.1 dX1_remove_17 rfl (lv_at hl 0 rfl) ?_
    refine k_X1_buckets F  hX ⟨by rw [hRm]; decide, by rw [hRm]; decide⟩ ⟨Nat.zero_le _, Nat.zero_le _⟩ hl.1 (Nat.le_of_ble_eq_true rfl) dX1_remove_18 (fun r u H locs hp hX => ?_)
    obtain ⟨⟨C2, rfl⟩, rfl⟩ := hp
    exact hend _ _ _ _ _ _ (Or.inr ⟨j, hj, rfl, hT, rfl, _, rfl⟩) hX dX1_remove_21
  · refine lv_iconst (v := -1) F.1 F.2.1 dX1_remove_8 (by decide +kernel) ?_
    exact hend _ _ _ _ _ _ (Or.inl ⟨c5, rfl, _, rfl⟩) hX dX1_remove_9
set_option maxHeartbeats 4000000 in
set_option maxRecDepth 100000 in
/-- growth(k) -/
theorem m_X1_growth (l : Launch) (D : va_G) (h : Nat → Nat) (cs : Nat → ClassId) {T : Nat → Bool} {V : Nat → Int32} {C : Nat → Nat} {k : Int32}  : cI l yX1_growth cX1_growth 5 (some .int) ({ frames := 4, cells := 0, slots := 0, locals := 90 } : Room) D (mdT cs) (mdW h cs (T, V, C)) [.ref (h 0), .int k] (mdW h cs) (fun (r : Int32) (u : MD) => (kB k = false ∧ r = -1 ∧ ∃ C2, u = (T, V, C2)) ∨ ∃ j, j < 256 ∧ k = nI j ∧ r = nI (bk (va_up T j true)) - nI (bk T) ∧ ∃ C2, u = (T, V, C2)) := by
  refine c_int (own := RX1) (by decide) rfl (Nat.le_of_ble_eq_true rfl) ?_
  intro p e s m below meth c A Q ls R args hRm F hend hX hl
  have hl : lv_has ls 5 [(0, .ref (h 0)), (1, .int k)] := hl
  refine lv_aload_n F.1 F.2.1 dX1_growth_0 rfl (lv_at hl 0 rfl) ?_
  refine lv_iload_n F.1 F.2.1 dX1_growth_1 rfl (lv_at hl 1 rfl) ?_
  refine k_X1_key F  hX ⟨by rw [hRm]; decide, by rw [hRm]; decide⟩ ⟨Nat.zero_le _, Nat.zero_le _⟩ hl.1 (Nat.le_of_ble_eq_true rfl) dX1_growth_2 (fun H locs hX => ?_)
  refine nv_ifB_ne (tgt := 10) F dX1_growth_5 (by decide) (fun c5 => ?_) (fun c5 => ?_)
  · obtain ⟨j, hj, rfl⟩ := kB_of c5
    refine lv_aload_n F.1 F.2.1 dX1_growth_10 rfl (lv_at hl 0 rfl) ?_
    refine k_X1_buckets F  hX ⟨by rw [hRm]; decide, by rw [hRm]; decide⟩ ⟨Nat.zero_le _, Nat.zero_le _⟩ hl.1 (Nat.le_of_ble_eq_true rfl) dX1_growth_11 (fun r u H locs hp hX => ?_)
    obtain ⟨⟨C2, rfl⟩, rfl⟩ := hp
    refine lv_istore_n (lv' := [(2, .int _), (0, .ref _), (1, .int _)]) F.1 F.2.1 dX1_growth_14 rfl hl (by decide) rfl (fun ls hl => ?_)
    refine lv_aload_n F.1 F.2.1 dX1_growth_15 rfl (lv_at hl 1 rfl) ?_
    refine g_md_T F hX dX1_growth_16 ?_
    refine lv_iload_n F.1 F.2.1 dX1_growth_19 rfl (lv_at hl 2 rfl) ?_
    refine ld_md_T F hX (by omega) dX1_growth_20 ?_
    refine lv_istore_n (lv' := [(3, .int _), (2, .int _), (0, .ref _), (1, .int _)]) F.1 F.2.1 dX1_growth_21 rfl hl (by decide) rfl (fun ls hl => ?_)
    refine lv_aload_n F.1 F.2.1 dX1_growth_22 rfl (lv_at hl 2 rfl) ?_
    refine g_md_T F hX dX1_growth_23 ?_
    refine lv_iload_n F.1 F.2.1 dX1_growth_26 rfl (lv_at hl 3 rfl) ?_
    refine lv_iconst (v := nI 1) F.1 F.2.1 dX1_growth_27 (by decide +kernel) ?_
    refine st_md_T (v := true) F hX (by omega) dX1_growth_28 (fun H locs hX => ?_)
    refine lv_aload_n F.1 F.2.1 dX1_growth_29 rfl (lv_at hl 2 rfl) ?_
    refine k_X1_buckets F  hX ⟨by rw [hRm]; decide, by rw [hRm]; decide⟩ ⟨Nat.zero_le _, Nat.zero_le _⟩ hl.1 (Nat.le_of_ble_eq_true rfl) dX1_growth_30 (fun r u H locs hp hX => ?_)
    obtain ⟨⟨C3, rfl⟩, rfl⟩ := hp
    refine lv_istore (lv' := [(4, .int _), (3, .int _), (2, .int _), (0, .ref _), (1, .int _)]) F.1 F.2.1 dX1_growth_33 hl (by decide) rfl (fun ls hl => ?_)
    refine lv_aload_n F.1 F.2.1 dX1_growth_35 rfl (lv_at hl 3 rfl) ?_
    refine g_md_T F hX dX1_growth_36 ?_
    refine lv_iload_n F.1 F.2.1 dX1_growth_39 rfl (lv_at hl 4 rfl) ?_
    refine lv_iload_n F.1 F.2.1 dX1_growth_40 rfl (lv_at hl 1 rfl) ?_
    refine st_md_T F hX (by omega) dX1_growth_41 (fun H locs hX => ?_)
    rw [up_same] at hX
    refine lv_iload F.1 F.2.1 dX1_growth_42 (lv_at hl 0 rfl) ?_
    refine lv_iload_n F.1 F.2.1 dX1_growth_44 rfl (lv_at hl 2 rfl) ?_
    refine lv_isub F.1 F.2.1 dX1_growth_45 ?_
    exact hend _ _ _ _ _ _ (Or.inr ⟨j, hj, rfl, rfl, _, rfl⟩) hX dX1_growth_46
  · refine lv_iconst (v := -1) F.1 F.2.1 dX1_growth_8 (by decide +kernel) ?_
    exact hend _ _ _ _ _ _ (Or.inl ⟨c5, rfl, _, rfl⟩) hX dX1_growth_9
end
section
/-! a static call that sees no cell -/
section ROWS_S
variable {p : Program} {l : Launch} {e : Env} {R : Room} {s : State} {m : MethodId} {args : Array Value} {below : List Frame} {meth : Method} {c : Code} {H : Heap} {locs : List Loc} {cells slots : Nat} {Q : State → Prop}
variable {cc : ByteArray} {pc : Nat} {ls : Array Slot} {rest : List Value} {nL : Nat} {own : String} {D : va_G} {tys : List (ClassId × FieldType)} {A : Nat → Prop} {w : va_W}
variable {y : MethodName} {bytes : ByteArray} {maxL index : Nat} {ret : Option FieldType} {rm : Room} {As : List Value}
set_option maxHeartbeats 1000000 in
theorem c_callS {post : Int32 → Unit → Prop} (F : CallFix p m c cc nL s args lw_all own) (hM : cI l y bytes maxL ret rm D [] [] As (fun _ : Unit => []) post) (w1 : Cond.methodLink own index y ∈ lw_all) (w2 : Cond.static y ∈ lw_all) (w3 : Cond.initialized y.cls ∈ lw_all) (w4 : Cond.code y bytes maxL ret ∈ lw_all) {n : Nat} (hn : As.length = n) (hd : y.cls ≠ "java/lang/invoke/MethodHandle" ∧ y.cls ≠ "java/lang/invoke/VarHandle" ∧ (parseMethodDescriptor y.desc).map (fun d => d.parameters.length) = some n) (hR : rm.frames + 1 ≤ R.frames ∧ 8 + (maxL + 11) + rm.locals ≤ R.locals) (hrc : rm.cells = 0) (hrs : rm.slots = 0) (hX : wX D tys A s w H locs) {st0 : List Value} (hst : st0 = As.reverse ++ rest) (hls : ls.size = nL) (hrest : (rest.map fun v => v.category).sum ≤ 8) (hcs : cells ≤ R.cells ∧ slots ≤ R.slots) (hdg : decode cc pc = .ok (.invokestatic index, 3))
    (kk : ∀ (r : Int32) (H1 : Heap) (locs1 : List Loc), post r () → wX D tys A s w H1 locs1 → W p l e R s m args below meth c H1 locs1 cells slots Q (F0 m (pc + 3) ls (.int r :: rest))) : W p l e R s m args below meth c H locs cells slots Q (F0 m pc ls st0) := by
  have hX0 : wX D [] A s [] H locs := ⟨hX.1.sub [] rfl, hX.2.1.sub [] rfl, hX.2.2.1.sub [] rfl rfl, hX.2.2.2⟩
  have hFc := wX_free hX0
  refine va_calli (va_runS (As := As) (rest := rest) F (hM H.size) (va_cwS n F.2.2.2.2 (lw_S w1 w2 w3 w4) rfl hrc hrs hd hR) ⟨cS_blind, cS_start hX0⟩ rfl hn hls hst (lv_room hrest) hdg hcs) hX.2.2.2.1 (fun q _ h => hFc q h) hFc (fun r u t H1 locs1 ht hvm hw hB hz hk hS => ?_)
  refine kk r H1 locs1 hw ⟨hX.1, hX.2.1.kept (fun k q hq => hk q.1 (hX.2.1 k q hq).lt (fun z => ?_)), hX.2.2.1, hS, hX.2.2.2.2⟩
  have hl := (hX.2.1 k q hq).lt
  rcases z with ⟨k2, e2, z⟩ | z
  · simp at z
  · omega
end ROWS_S
end
section
/-! walks of SplitDirectory: leaves -/
theorem pw6 : ∀ d, d ≤ 6 → 2 ^ d ≤ 64 := fun d h => Nat.pow_le_pow_right (n := 2) (j := 6) (by omega) h
theorem md6 {k d : Nat} (h : d ≤ 6) : k % 2 ^ d < 64 := Nat.lt_of_lt_of_le (Nat.mod_lt k (Nat.pow_pos (by omega))) (pw6 d h)
def fdR (lo ke : Nat → Nat) (b j : Nat) (r : Int32) : Prop := (∃ i, i < lo b ∧ ke (b * 5 + i) = j ∧ r = nI i) ∨ ((∀ i, i < lo b → ke (b * 5 + i) ≠ j) ∧ r = -1)
theorem mxU_le {us : Nat → Bool} {de : Nat → Nat} (h : ∀ b, us b = true → de b ≤ 6) (n : Nat) : mxU us de n ≤ 6 := by
  rcases mxU_in (us := us) (de := de) (n := n) with q | ⟨b, q1, q2, q3⟩
  · omega
  · have := h b q2
    omega
set_option maxHeartbeats 4000000 in
set_option maxRecDepth 100000 in
/-- isKey(k) -/
theorem m_X0_isKey (l : Launch) (D : va_G) {k : Int32} : cI l yX0_isKey cX0_isKey 1 (some .boolean) ({ frames := 0, cells := 0, slots := 0, locals := 0 } : Room) D [] [] [.int k] (fun _ : Unit => []) (fun (r : Int32) (_ : Unit) => ∃ z : Bool, r = nI z.toNat ∧ z = kB k) := by
  refine c_bool (post := fun (z : Bool) (_ : Unit) => z = kB k) (own := RX0) (by decide) rfl (Nat.le_of_ble_eq_true rfl) ?_
  intro p e s m below meth c A Q ls R args hRm F hend hX hl
  have hl : lv_has ls 1 [(0, .int k)] := hl
  refine lv_iload_n F.1 F.2.1 dX0_isKey_0 rfl (lv_at hl 0 rfl) ?_
  refine lv_if_lt (tgt := 15) F.1 F.2.1 dX0_isKey_1 (by decide) (fun c1 => ?_) (fun c1 => ?_)
  · have hz : (false : Bool) = kB k := by
      unfold kB
      have h1 : ¬ ((0 : Int32) ≤ k ∧ k < 256) := by grind
      by_cases h2 : (0 : Int32) ≤ k
      · have h3 : ¬ k < 256 := fun q => h1 ⟨h2, q⟩
        simp [h3]
      · simp [h2]
    refine lv_iconst (v := nI (false).toNat) F.1 F.2.1 dX0_isKey_15 (by decide +kernel) ?_
    exact hend _ _ false () _ _ hz hX dX0_isKey_16
  · refine lv_iload_n F.1 F.2.1 dX0_isKey_4 rfl (lv_at hl 0 rfl) ?_
    refine lv_sipush (v := 256) F.1 F.2.1 dX0_isKey_5 (by decide +kernel) ?_
    refine lv_icmp_ge (tgt := 15) F.1 F.2.1 dX0_isKey_8 (by decide) (fun c8 => ?_) (fun c8 => ?_)
    · have hz : (false : Bool) = kB k := by
        unfold kB
        have h1 : ¬ ((0 : Int32) ≤ k ∧ k < 256) := by grind
        by_cases h2 : (0 : Int32) ≤ k
        · have h3 : ¬ k < 256 := fun q => h1 ⟨h2, q⟩
          simp [h3]
        · simp [h2]
      refine lv_iconst (v := nI (false).toNat) F.1 F.2.1 dX0_isKey_15 (by decide +kernel) ?_
      exact hend _ _ false () _ _ hz hX dX0_isKey_16
    · have hz : (true : Bool) = kB k := by
        unfold kB
        have h1 : (0 : Int32) ≤ k := by grind
        have h2 : k < 256 := by grind
        simp [h1, h2]
      refine lv_iconst (v := nI (true).toNat) F.1 F.2.1 dX0_isKey_11 (by decide +kernel) ?_
      refine lv_goto (tgt := 16) F.1 F.2.1 dX0_isKey_12 (by decide) ?_
      exact hend _ _ true () _ _ hz hX dX0_isKey_16
set_option maxRecDepth 100000 in
theorem k_X0_isKey {p : Program} {l : Launch} {e : Env} {R : Room} {s : State} {m : MethodId} {args : Array Value} {below : List Frame} {meth : Method} {c : Code} {H : Heap} {locs : List Loc} {cells slots : Nat} {Q : State → Prop} {cc : ByteArray} {pc : Nat} {ls : Array Slot} {rest : List Value} {nL : Nat} {D : va_G} {A : Nat → Prop} {tys : List (ClassId × FieldType)} {w : va_W} {k : Int32} (F : CallFix p m c cc nL s args lw_all RX0) (hX : wX D tys A s w H locs) (hR : 1 ≤ R.frames ∧ 20 ≤ R.locals) (hcs : cells ≤ R.cells ∧ slots ≤ R.slots) (hls : ls.size = nL) (hrest : (rest.map fun v => v.category).sum ≤ 8) (hdg : decode cc pc = .ok (.invokestatic 64, 3)) (kk : ∀ (H1 : Heap) (locs1 : List Loc), wX D tys A s w H1 locs1 → W p l e R s m args below meth c H1 locs1 cells slots Q (F0 m (pc + 3) ls (.int (nI (kB k).toNat) :: rest))) : W p l e R s m args below meth c H locs cells slots Q (F0 m pc ls (.int k :: rest)) :=
  c_callS (As := [.int k]) (rest := rest) F (m_X0_isKey l D) q59 q60 q13 q61 (n := 1) rfl (by decide +kernel) ⟨hR.1, hR.2⟩ rfl rfl hX rfl hls hrest hcs hdg (fun r H1 locs1 hp hX1 => by obtain ⟨z, rfl, rfl⟩ := hp; exact kk H1 locs1 hX1)
set_option maxHeartbeats 4000000 in
set_option maxRecDepth 100000 in
/-- bucketOf(k) -/
theorem m_X0_bucketOf (l : Launch) (D : va_G) (h : Nat → Nat) (cs : Nat → ClassId) {dp bc kc : Nat} {di de lo ke : Nat → Nat} {us : Nat → Bool} {va : Nat → Int32} {k : Nat} (hk : k < 2 ^ 31) (h6 : dp ≤ 6) : cI l yX0_bucketOf cX0_bucketOf 2 (some .int) ({ frames := 0, cells := 0, slots := 0, locals := 0 } : Room) D (sdT cs) (sdW h cs (dp, bc, kc, di, us, de, lo, ke, va)) [.ref (h 0), .int (nI k)] (sdW h cs) (fun (r : Int32) (u : SD) => u = (dp, bc, kc, di, us, de, lo, ke, va) ∧ r = nI (be dp di k)) := by
  refine c_int (own := RX0) (by decide) rfl (Nat.le_of_ble_eq_true rfl) ?_
  intro p e s m below meth c A Q ls R args hRm F hend hX hl
  have hl : lv_has ls 2 [(0, .ref (h 0)), (1, .int (nI k))] := hl
  refine lv_aload_n F.1 F.2.1 dX0_bucketOf_0 rfl (lv_at hl 0 rfl) ?_
  refine g_sd_di F hX dX0_bucketOf_1 ?_
  refine lv_iload_n F.1 F.2.1 dX0_bucketOf_4 rfl (lv_at hl 1 rfl) ?_
  refine lv_iconst (v := nI 1) F.1 F.2.1 dX0_bucketOf_5 (by decide +kernel) ?_
  refine lv_aload_n F.1 F.2.1 dX0_bucketOf_6 rfl (lv_at hl 0 rfl) ?_
  refine g_sd_dp F hX dX0_bucketOf_7 ?_
  refine nv_shl1 F (by omega) dX0_bucketOf_10 ?_
  refine lv_iconst (v := nI 1) F.1 F.2.1 dX0_bucketOf_11 (by decide +kernel) ?_
  refine nv_isub F Nat.one_le_two_pow dX0_bucketOf_12 ?_
  refine nv_mask F (by omega) (by omega) dX0_bucketOf_13 ?_
  refine ld_sd_di F hX (md6 h6) dX0_bucketOf_14 ?_
  exact hend _ _ _ _ _ _ ⟨rfl, rfl⟩ hX dX0_bucketOf_15
set_option maxRecDepth 100000 in
theorem k_X0_bucketOf {p : Program} {l : Launch} {e : Env} {R : Room} {s : State} {m : MethodId} {args : Array Value} {below : List Frame} {meth : Method} {c : Code} {H : Heap} {locs : List Loc} {cells slots : Nat} {Q : State → Prop} {cc : ByteArray} {pc : Nat} {ls : Array Slot} {rest : List Value} {nL : Nat} {D : va_G} {A : Nat → Prop} {h : Nat → Nat} {cs : Nat → ClassId} {dp bc kc : Nat} {di de lo ke : Nat → Nat} {us : Nat → Bool} {va : Nat → Int32} {k : Nat} (F : CallFix p m c cc nL s args lw_all RX0) (hk : k < 2 ^ 31) (h6 : dp ≤ 6) (hX : wX D (sdT cs) A s (sdW h cs (dp, bc, kc, di, us, de, lo, ke, va)) H locs) (hR : 1 ≤ R.frames ∧ 21 ≤ R.locals) (hcs : cells ≤ R.cells ∧ slots ≤ R.slots) (hls : ls.size = nL) (hrest : (rest.map fun v => v.category).sum ≤ 8) (hdg : decode cc pc = .ok (.invokevirtual 46, 3)) (kk : ∀ (H1 : Heap) (locs1 : List Loc), wX D (sdT cs) A s (sdW h cs (dp, bc, kc, di, us, de, lo, ke, va)) H1 locs1 → W p l e R s m args below meth c H1 locs1 cells slots Q (F0 m (pc + 3) ls (.int (nI (be dp di k)) :: rest))) : W p l e R s m args below meth c H locs cells slots Q (F0 m pc ls (.int (nI k) :: .ref (h 0) :: rest)) :=
  c_calli (C := RX0) (As := [.int (nI k)]) (rest := rest) F (m_X0_bucketOf l D h cs hk h6) q62 q64 qs0 q13 q65 (n := 1) rfl (by decide +kernel) ⟨hR.1, by have := hR.2; exact this⟩ rfl rfl hX (ci := 0) rfl rfl rfl rfl hls hrest hcs hdg (fun r u H1 locs1 hp hX1 => by obtain ⟨rfl, rfl⟩ := hp; exact kk H1 locs1 hX1)
set_option maxHeartbeats 4000000 in
set_option maxRecDepth 100000 in
/-- find(b, key) -/
theorem m_X0_find (l : Launch) (D : va_G) (h : Nat → Nat) (cs : Nat → ClassId) {dp bc kc : Nat} {di de lo ke : Nat → Nat} {us : Nat → Bool} {va : Nat → Int32} {b j : Nat} (hb : b < 65) (hlo : lo b ≤ 5) (hke : ∀ i, i < lo b → ke (b * 5 + i) < 2 ^ 31) (hj : j < 2 ^ 31) : cI l yX0_find cX0_find 4 (some .int) ({ frames := 0, cells := 0, slots := 0, locals := 0 } : Room) D (sdT cs) (sdW h cs (dp, bc, kc, di, us, de, lo, ke, va)) [.ref (h 0), .int (nI b), .int (nI j)] (sdW h cs) (fun (r : Int32) (u : SD) => u = (dp, bc, kc, di, us, de, lo, ke, va) ∧ fdR lo ke b j r) := by
  refine c_int (own := RX0) (by decide) rfl (Nat.le_of_ble_eq_true rfl) ?_
  intro p e s m below meth c A Q ls R args hRm F hend hX hl
  have hl : lv_has ls 4 [(0, .ref (h 0)), (1, .int (nI b)), (2, .int (nI j))] := hl
  have loop : ∀ (n i : Nat) (H : Heap) (locs : List Loc) (ls : Array Slot), lo b + 1 ≤ i + n → i ≤ lo b → (∀ t, t < i → ke (b * 5 + t) ≠ j) → wX D (sdT cs) A s (sdW h cs (dp, bc, kc, di, us, de, lo, ke, va)) H locs → lv_has ls 4 [(0, .ref (h 0)), (1, .int (nI b)), (2, .int (nI j)), (3, .int (nI i))] → W p l e R s m args below meth c H locs 0 0 Q (F0 m 2 ls []) := by
    intro n
    induction n with
    | zero => intro i H locs ls h1 h2; omega
    | succ n ih =>
      intro i H locs ls hn hi hI hX hl
      refine lv_iload_n F.1 F.2.1 dX0_find_2 rfl (lv_at hl 3 rfl) ?_
      refine lv_aload_n F.1 F.2.1 dX0_find_3 rfl (lv_at hl 0 rfl) ?_
      refine g_sd_lo F hX dX0_find_4 ?_
      refine lv_iload_n F.1 F.2.1 dX0_find_7 rfl (lv_at hl 1 rfl) ?_
      refine ld_sd_lo F hX (by omega) dX0_find_8 ?_
      refine nv_icmp_ge (tgt := 34) F dX0_find_9 (by decide) (by omega) (by omega) (fun c9 => ?_) (fun c9 => ?_)
      · refine lv_iconst (v := -1) F.1 F.2.1 dX0_find_34 (by decide +kernel) ?_
        exact hend _ _ _ _ _ _ ⟨rfl, Or.inr ⟨fun t ht => hI t (by omega), rfl⟩⟩ hX dX0_find_35
      · refine lv_aload_n F.1 F.2.1 dX0_find_12 rfl (lv_at hl 0 rfl) ?_
        refine g_sd_ke F hX dX0_find_13 ?_
        refine lv_iload_n F.1 F.2.1 dX0_find_16 rfl (lv_at hl 1 rfl) ?_
        refine lv_iconst (v := nI 5) F.1 F.2.1 dX0_find_17 (by decide +kernel) ?_
        refine nv_imul F dX0_find_18 ?_
        refine lv_iload_n F.1 F.2.1 dX0_find_19 rfl (lv_at hl 3 rfl) ?_
        refine nv_iadd F dX0_find_20 ?_
        refine ld_sd_ke F hX (by omega) dX0_find_21 ?_
        refine lv_iload_n F.1 F.2.1 dX0_find_22 rfl (lv_at hl 2 rfl) ?_
        refine nv_icmp_ne (tgt := 28) F dX0_find_23 (by decide) (hke i c9) (by omega) (fun c23 => ?_) (fun c23 => ?_)
        · refine nv_iinc (lv' := [(3, .int _), (0, .ref _), (1, .int _), (2, .int _)]) F dX0_find_28 hl (k := 3) rfl (by decide) rfl (fun ls hl => ?_)
          refine lv_goto (tgt := 2) F.1 F.2.1 dX0_find_31 (by decide) ?_
          refine ih (i + 1) _ _ _ (by omega) (by omega) (fun t ht => ?_) hX (lv_sub hl [1, 2, 3, 0] rfl)
          rcases Nat.lt_or_ge t i with q | q
          · exact hI t q
          · rw [show t = i by omega]
            exact c23
        · refine lv_iload_n F.1 F.2.1 dX0_find_26 rfl (lv_at hl 3 rfl) ?_
          exact hend _ _ _ _ _ _ ⟨rfl, Or.inl ⟨i, c9, c23, rfl⟩⟩ hX dX0_find_27
  refine lv_iconst (v := nI 0) F.1 F.2.1 dX0_find_0 (by decide +kernel) ?_
  refine lv_istore_n (lv' := [(3, .int _), (0, .ref _), (1, .int _), (2, .int _)]) F.1 F.2.1 dX0_find_1 rfl hl (by decide) rfl (fun ls hl => ?_)
  exact loop (lo b + 1) 0 _ _ _ (by omega) (Nat.zero_le _) (fun t ht => by omega) hX (lv_sub hl [1, 2, 3, 0] rfl)
set_option maxRecDepth 100000 in
theorem k_X0_find {p : Program} {l : Launch} {e : Env} {R : Room} {s : State} {m : MethodId} {args : Array Value} {below : List Frame} {meth : Method} {c : Code} {H : Heap} {locs : List Loc} {cells slots : Nat} {Q : State → Prop} {cc : ByteArray} {pc : Nat} {ls : Array Slot} {rest : List Value} {nL : Nat} {D : va_G} {A : Nat → Prop} {h : Nat → Nat} {cs : Nat → ClassId} {dp bc kc : Nat} {di de lo ke : Nat → Nat} {us : Nat → Bool} {va : Nat → Int32} {b j : Nat} (F : CallFix p m c cc nL s args lw_all RX0) (hb : b < 65) (hlo : lo b ≤ 5) (hke : ∀ i, i < lo b → ke (b * 5 + i) < 2 ^ 31) (hj : j < 2 ^ 31) (hX : wX D (sdT cs) A s (sdW h cs (dp, bc, kc, di, us, de, lo, ke, va)) H locs) (hR : 1 ≤ R.frames ∧ 23 ≤ R.locals) (hcs : cells ≤ R.cells ∧ slots ≤ R.slots) (hls : ls.size = nL) (hrest : (rest.map fun v => v.category).sum ≤ 8) (hdg : decode cc pc = .ok (.invokevirtual 67, 3)) (kk : ∀ (r : Int32) (u : SD) (H1 : Heap) (locs1 : List Loc), (u = (dp, bc, kc, di, us, de, lo, ke, va) ∧ fdR lo ke b j r) → wX D (sdT cs) A s (sdW h cs u) H1 locs1 → W p l e R s m args below meth c H1 locs1 cells slots Q (F0 m (pc + 3) ls (.int r :: rest))) : W p l e R s m args below meth c H locs cells slots Q (F0 m pc ls (.int (nI j) :: .int (nI b) :: .ref (h 0) :: rest)) :=
  c_calli (C := RX0) (As := [.int (nI b), .int (nI j)]) (rest := rest) F (m_X0_find l D h cs hb hlo hke hj) q66 q68 qs1 q13 q69 (n := 2) rfl (by decide +kernel) ⟨hR.1, by have := hR.2; exact this⟩ rfl rfl hX (ci := 0) rfl rfl rfl rfl hls hrest hcs hdg (kk)
set_option maxHeartbeats 4000000 in
set_option maxRecDepth 100000 in
/-- append(b, key, value) -/
theorem m_X0_append (l : Launch) (D : va_G) (h : Nat → Nat) (cs : Nat → ClassId) {dp bc kc : Nat} {di de lo ke : Nat → Nat} {us : Nat → Bool} {va : Nat → Int32} {b k : Nat} {v : Int32} (hb : b < 65) (hlo : lo b < 5) (hk : k < 256) : cV l yX0_append cX0_append 4 ({ frames := 0, cells := 0, slots := 0, locals := 0 } : Room) D (sdT cs) (sdW h cs (dp, bc, kc, di, us, de, lo, ke, va)) [.ref (h 0), .int (nI b), .int (nI k), .int v] (sdW h cs) (fun (u : SD) => u = (dp, bc, kc, di, us, de, va_up lo b (lo b + 1), va_up ke (b * 5 + lo b) k, va_up va (b * 5 + lo b) v)) := by
  refine c_void (own := RX0) (by decide) rfl (Nat.le_of_ble_eq_true rfl) ?_
  intro p e s m below meth c A Q ls R args hRm F hend hX hl
  have hl : lv_has ls 4 [(0, .ref (h 0)), (1, .int (nI b)), (2, .int (nI k)), (3, .int v)] := hl
  refine lv_aload_n F.1 F.2.1 dX0_append_0 rfl (lv_at hl 0 rfl) ?_
  refine g_sd_ke F hX dX0_append_1 ?_
  refine lv_iload_n F.1 F.2.1 dX0_append_4 rfl (lv_at hl 1 rfl) ?_
  refine lv_iconst (v := nI 5) F.1 F.2.1 dX0_append_5 (by decide +kernel) ?_
  refine nv_imul F dX0_append_6 ?_
  refine lv_aload_n F.1 F.2.1 dX0_append_7 rfl (lv_at hl 0 rfl) ?_
  refine g_sd_lo F hX dX0_append_8 ?_
  refine lv_iload_n F.1 F.2.1 dX0_append_11 rfl (lv_at hl 1 rfl) ?_
  refine ld_sd_lo F hX (by omega) dX0_append_12 ?_
  refine nv_iadd F dX0_append_13 ?_
  refine lv_iload_n F.1 F.2.1 dX0_append_14 rfl (lv_at hl 2 rfl) ?_
  refine nv_i2s F (by omega) dX0_append_15 ?_
  refine st_sd_ke F hX (by omega) (by omega) dX0_append_16 (fun H locs hX => ?_)
  refine lv_aload_n F.1 F.2.1 dX0_append_17 rfl (lv_at hl 0 rfl) ?_
  refine g_sd_va F hX dX0_append_18 ?_
  refine lv_iload_n F.1 F.2.1 dX0_append_21 rfl (lv_at hl 1 rfl) ?_
  refine lv_iconst (v := nI 5) F.1 F.2.1 dX0_append_22 (by decide +kernel) ?_
  refine nv_imul F dX0_append_23 ?_
  refine lv_aload_n F.1 F.2.1 dX0_append_24 rfl (lv_at hl 0 rfl) ?_
  refine g_sd_lo F hX dX0_append_25 ?_
  refine lv_iload_n F.1 F.2.1 dX0_append_28 rfl (lv_at hl 1 rfl) ?_
  refine ld_sd_lo F hX (by omega) dX0_append_29 ?_
  refine nv_iadd F dX0_append_30 ?_
  refine lv_iload_n F.1 F.2.1 dX0_append_31 rfl (lv_at hl 3 rfl) ?_
  refine st_sd_va F hX (by omega) dX0_append_32 (fun H locs hX => ?_)
  refine lv_aload_n F.1 F.2.1 dX0_append_33 rfl (lv_at hl 0 rfl) ?_
  refine g_sd_lo F hX dX0_append_34 ?_
  refine lv_iload_n F.1 F.2.1 dX0_append_37 rfl (lv_at hl 1 rfl) ?_
  refine lv_dup2_11 F.1 F.2.1 dX0_append_38 rfl rfl ?_
  refine ld_sd_lo F hX (by omega) dX0_append_39 ?_
  refine lv_iconst (v := nI 1) F.1 F.2.1 dX0_append_40 (by decide +kernel) ?_
  refine nv_iadd F dX0_append_41 ?_
  refine nv_i2b F (by omega) dX0_append_42 ?_
  refine st_sd_lo F hX (by omega) (by omega) dX0_append_43 (fun H locs hX => ?_)
  exact hend _ _ _ _ _ rfl hX dX0_append_44
set_option maxRecDepth 100000 in
theorem k_X0_append {p : Program} {l : Launch} {e : Env} {R : Room} {s : State} {m : MethodId} {args : Array Value} {below : List Frame} {meth : Method} {c : Code} {H : Heap} {locs : List Loc} {cells slots : Nat} {Q : State → Prop} {cc : ByteArray} {pc : Nat} {ls : Array Slot} {rest : List Value} {nL : Nat} {D : va_G} {A : Nat → Prop} {h : Nat → Nat} {cs : Nat → ClassId} {dp bc kc : Nat} {di de lo ke : Nat → Nat} {us : Nat → Bool} {va : Nat → Int32} {b k : Nat} {v : Int32} (F : CallFix p m c cc nL s args lw_all RX0) (hb : b < 65) (hlo : lo b < 5) (hk : k < 256) (hX : wX D (sdT cs) A s (sdW h cs (dp, bc, kc, di, us, de, lo, ke, va)) H locs) (hR : 1 ≤ R.frames ∧ 23 ≤ R.locals) (hcs : cells ≤ R.cells ∧ slots ≤ R.slots) (hls : ls.size = nL) (hrest : (rest.map fun v => v.category).sum ≤ 8) (hdg : decode cc pc = .ok (.invokevirtual 42, 3)) (kk : ∀ (u : SD) (H1 : Heap) (locs1 : List Loc), (u = (dp, bc, kc, di, us, de, va_up lo b (lo b + 1), va_up ke (b * 5 + lo b) k, va_up va (b * 5 + lo b) v)) → wX D (sdT cs) A s (sdW h cs u) H1 locs1 → W p l e R s m args below meth c H1 locs1 cells slots Q (F0 m (pc + 3) ls rest)) : W p l e R s m args below meth c H locs cells slots Q (F0 m pc ls (.int v :: .int (nI k) :: .int (nI b) :: .ref (h 0) :: rest)) :=
  c_callv (C := RX0) (As := [.int (nI b), .int (nI k), .int v]) (rest := rest) F (m_X0_append l D h cs hb hlo hk) q74 q76 qs3 q13 q77 (n := 3) rfl (by decide +kernel) ⟨hR.1, by have := hR.2; exact this⟩ rfl rfl hX (ci := 0) rfl rfl rfl rfl hls hrest hcs hdg (kk)
set_option maxHeartbeats 4000000 in
set_option maxRecDepth 100000 in
/-- newBucket(): the first that is free -/
theorem m_X0_newBucket (l : Launch) (D : va_G) (h : Nat → Nat) (cs : Nat → ClassId) {dp bc kc : Nat} {di de lo ke : Nat → Nat} {us : Nat → Bool} {va : Nat → Int32} {c0 : Nat} (hc0 : c0 < 64) (hu0 : us c0 = false) : cI l yX0_newBucket cX0_newBucket 2 (some .int) ({ frames := 0, cells := 0, slots := 0, locals := 0 } : Room) D (sdT cs) (sdW h cs (dp, bc, kc, di, us, de, lo, ke, va)) [.ref (h 0)] (sdW h cs) (fun (r : Int32) (u : SD) => ∃ c, c < 64 ∧ us c = false ∧ r = nI c ∧ u = (dp, bc + 1, kc, di, va_up us c true, de, va_up lo c 0, ke, va)) := by
  refine c_int (own := RX0) (by decide) rfl (Nat.le_of_ble_eq_true rfl) ?_
  intro p e s m below meth c A Q ls R args hRm F hend hX hl
  have hl : lv_has ls 2 [(0, .ref (h 0))] := hl
  have loop : ∀ (n i : Nat) (H : Heap) (locs : List Loc) (ls : Array Slot), c0 + 1 ≤ i + n → i ≤ c0 → wX D (sdT cs) A s (sdW h cs (dp, bc, kc, di, us, de, lo, ke, va)) H locs → lv_has ls 2 [(0, .ref (h 0)), (1, .int (nI i))] → W p l e R s m args below meth c H locs 0 0 Q (F0 m 2 ls []) := by
    intro n
    induction n with
    | zero => intro i H locs ls h1 h2; omega
    | succ n ih =>
      intro i H locs ls hn hi hX hl
      refine lv_aload_n F.1 F.2.1 dX0_newBucket_2 rfl (lv_at hl 0 rfl) ?_
      refine g_sd_us F hX dX0_newBucket_3 ?_
      refine lv_iload_n F.1 F.2.1 dX0_newBucket_6 rfl (lv_at hl 1 rfl) ?_
      refine ld_sd_us F hX (by omega) dX0_newBucket_7 ?_
      refine nv_ifB_eq (tgt := 17) F dX0_newBucket_8 (by decide) (fun c8 => ?_) (fun c8 => ?_)
      · refine lv_aload_n F.1 F.2.1 dX0_newBucket_17 rfl (lv_at hl 0 rfl) ?_
        refine g_sd_us F hX dX0_newBucket_18 ?_
        refine lv_iload_n F.1 F.2.1 dX0_newBucket_21 rfl (lv_at hl 1 rfl) ?_
        refine lv_iconst (v := nI 1) F.1 F.2.1 dX0_newBucket_22 (by decide +kernel) ?_
        refine st_sd_us (v := true) F hX (by omega) dX0_newBucket_23 (fun H locs hX => ?_)
        refine lv_aload_n F.1 F.2.1 dX0_newBucket_24 rfl (lv_at hl 0 rfl) ?_
        refine g_sd_lo F hX dX0_newBucket_25 ?_
        refine lv_iload_n F.1 F.2.1 dX0_newBucket_28 rfl (lv_at hl 1 rfl) ?_
        refine lv_iconst (v := nI 0) F.1 F.2.1 dX0_newBucket_29 (by decide +kernel) ?_
        refine st_sd_lo F hX (by omega) (by omega) dX0_newBucket_30 (fun H locs hX => ?_)
        refine lv_aload_n F.1 F.2.1 dX0_newBucket_31 rfl (lv_at hl 0 rfl) ?_
        refine lv_dup F.1 F.2.1 dX0_newBucket_32 rfl ?_
        refine g_sd_bc F hX dX0_newBucket_33 ?_
        refine lv_iconst (v := nI 1) F.1 F.2.1 dX0_newBucket_36 (by decide +kernel) ?_
        refine nv_iadd F dX0_newBucket_37 ?_
        refine p_sd_bc F hX dX0_newBucket_38 (fun H locs hX => ?_)
        refine lv_iload_n F.1 F.2.1 dX0_newBucket_41 rfl (lv_at hl 1 rfl) ?_
        exact hend _ _ _ _ _ _ ⟨i, by omega, c8, rfl, rfl⟩ hX dX0_newBucket_42
      · have hne : i ≠ c0 := fun q => by rw [q, hu0] at c8; cases c8
        refine nv_iinc (lv' := [(1, .int _), (0, .ref _)]) F dX0_newBucket_11 hl (k := 1) rfl (by decide) rfl (fun ls hl => ?_)
        refine lv_goto (tgt := 2) F.1 F.2.1 dX0_newBucket_14 (by decide) ?_
        exact ih (i + 1) _ _ _ (by omega) (by omega) hX (lv_sub hl [1, 0] rfl)
  refine lv_iconst (v := nI 0) F.1 F.2.1 dX0_newBucket_0 (by decide +kernel) ?_
  refine lv_istore_n (lv' := [(1, .int _), (0, .ref _)]) F.1 F.2.1 dX0_newBucket_1 rfl hl (by decide) rfl (fun ls hl => ?_)
  exact loop (c0 + 1) 0 _ _ _ (by omega) (Nat.zero_le _) hX (lv_sub hl [1, 0] rfl)
set_option maxRecDepth 100000 in
theorem k_X0_newBucket {p : Program} {l : Launch} {e : Env} {R : Room} {s : State} {m : MethodId} {args : Array Value} {below : List Frame} {meth : Method} {c : Code} {H : Heap} {locs : List Loc} {cells slots : Nat} {Q : State → Prop} {cc : ByteArray} {pc : Nat} {ls : Array Slot} {rest : List Value} {nL : Nat} {D : va_G} {A : Nat → Prop} {h : Nat → Nat} {cs : Nat → ClassId} {dp bc kc : Nat} {di de lo ke : Nat → Nat} {us : Nat → Bool} {va : Nat → Int32} {c0 : Nat} (F : CallFix p m c cc nL s args lw_all RX0) (hc0 : c0 < 64) (hu0 : us c0 = false) (hX : wX D (sdT cs) A s (sdW h cs (dp, bc, kc, di, us, de, lo, ke, va)) H locs) (hR : 1 ≤ R.frames ∧ 21 ≤ R.locals) (hcs : cells ≤ R.cells ∧ slots ≤ R.slots) (hls : ls.size = nL) (hrest : (rest.map fun v => v.category).sum ≤ 8) (hdg : decode cc pc = .ok (.invokevirtual 38, 3)) (kk : ∀ (r : Int32) (u : SD) (H1 : Heap) (locs1 : List Loc), (∃ c, c < 64 ∧ us c = false ∧ r = nI c ∧ u = (dp, bc + 1, kc, di, va_up us c true, de, va_up lo c 0, ke, va)) → wX D (sdT cs) A s (sdW h cs u) H1 locs1 → W p l e R s m args below meth c H1 locs1 cells slots Q (F0 m (pc + 3) ls (.int r :: rest))) : W p l e R s m args below meth c H locs cells slots Q (F0 m pc ls (.ref (h 0) :: rest)) :=
  c_calli (C := RX0) (As := []) (rest := rest) F (m_X0_newBucket l D h cs hc0 hu0) q82 q84 qs5 q13 q85 (n := 0) rfl (by decide +kernel) ⟨hR.1, by have := hR.2; exact this⟩ rfl rfl hX (ci := 0) rfl rfl rfl rfl hls hrest hcs hdg (kk)
set_option maxHeartbeats 4000000 in
set_option maxRecDepth 100000 in
/-- size() -/
theorem m_X0_size (l : Launch) (D : va_G) (h : Nat → Nat) (cs : Nat → ClassId) {dp bc kc : Nat} {di de lo ke : Nat → Nat} {us : Nat → Bool} {va : Nat → Int32}   : cI l yX0_size cX0_size 1 (some .int) ({ frames := 0, cells := 0, slots := 0, locals := 0 } : Room) D (sdT cs) (sdW h cs (dp, bc, kc, di, us, de, lo, ke, va)) [.ref (h 0)] (sdW h cs) (fun (r : Int32) (u : SD) => u = (dp, bc, kc, di, us, de, lo, ke, va) ∧ r = nI kc) := by
  refine c_int (own := RX0) (by decide) rfl (Nat.le_of_ble_eq_true rfl) ?_
  intro p e s m below meth c A Q ls R args hRm F hend hX hl
  have hl : lv_has ls 1 [(0, .ref (h 0))] := hl
  refine lv_aload_n F.1 F.2.1 dX0_size_0 rfl (lv_at hl 0 rfl) ?_
  refine g_sd_kc F hX dX0_size_1 ?_
  exact hend _ _ _ _ _ _ ⟨rfl, rfl⟩ hX dX0_size_4
set_option maxHeartbeats 4000000 in
set_option maxRecDepth 100000 in
/-- buckets() -/
theorem m_X0_buckets (l : Launch) (D : va_G) (h : Nat → Nat) (cs : Nat → ClassId) {dp bc kc : Nat} {di de lo ke : Nat → Nat} {us : Nat → Bool} {va : Nat → Int32}   : cI l yX0_buckets cX0_buckets 1 (some .int) ({ frames := 0, cells := 0, slots := 0, locals := 0 } : Room) D (sdT cs) (sdW h cs (dp, bc, kc, di, us, de, lo, ke, va)) [.ref (h 0)] (sdW h cs) (fun (r : Int32) (u : SD) => u = (dp, bc, kc, di, us, de, lo, ke, va) ∧ r = nI bc) := by
  refine c_int (own := RX0) (by decide) rfl (Nat.le_of_ble_eq_true rfl) ?_
  intro p e s m below meth c A Q ls R args hRm F hend hX hl
  have hl : lv_has ls 1 [(0, .ref (h 0))] := hl
  refine lv_aload_n F.1 F.2.1 dX0_buckets_0 rfl (lv_at hl 0 rfl) ?_
  refine g_sd_bc F hX dX0_buckets_1 ?_
  exact hend _ _ _ _ _ _ ⟨rfl, rfl⟩ hX dX0_buckets_4
set_option maxHeartbeats 4000000 in
set_option maxRecDepth 100000 in
/-- deepest() -/
theorem m_X0_deepest (l : Launch) (D : va_G) (h : Nat → Nat) (cs : Nat → ClassId) {dp bc kc : Nat} {di de lo ke : Nat → Nat} {us : Nat → Bool} {va : Nat → Int32}  (hde : ∀ b, us b = true → de b ≤ 6) : cI l yX0_deepest cX0_deepest 3 (some .int) ({ frames := 0, cells := 0, slots := 0, locals := 0 } : Room) D (sdT cs) (sdW h cs (dp, bc, kc, di, us, de, lo, ke, va)) [.ref (h 0)] (sdW h cs) (fun (r : Int32) (u : SD) => u = (dp, bc, kc, di, us, de, lo, ke, va) ∧ r = nI (mxU us de 64)) := by
  refine c_int (own := RX0) (by decide) rfl (Nat.le_of_ble_eq_true rfl) ?_
  intro p e s m below meth c A Q ls R args hRm F hend hX hl
  have hl : lv_has ls 3 [(0, .ref (h 0))] := hl
  have loop : ∀ (n i : Nat) (H : Heap) (locs : List Loc) (ls : Array Slot), 65 ≤ i + n → i ≤ 64 → wX D (sdT cs) A s (sdW h cs (dp, bc, kc, di, us, de, lo, ke, va)) H locs → lv_has ls 3 [(0, .ref (h 0)), (1, .int (nI (mxU us de i))), (2, .int (nI i))] → W p l e R s m args below meth c H locs 0 0 Q (F0 m 4 ls []) := by
    intro n
    induction n with
    | zero => intro i H locs ls h1 h2; omega
    | succ n ih =>
      intro i H locs ls hn hi hX hl
      have hm := mxU_le hde i
      refine lv_iload_n F.1 F.2.1 dX0_deepest_4 rfl (lv_at hl 2 rfl) ?_
      refine lv_bipush (v := nI 64) F.1 F.2.1 dX0_deepest_5 (by decide +kernel) ?_
      refine nv_icmp_ge (tgt := 46) F dX0_deepest_7 (by decide) (by omega) (by omega) (fun c7 => ?_) (fun c7 => ?_)
      · refine lv_iload_n F.1 F.2.1 dX0_deepest_46 rfl (lv_at hl 1 rfl) ?_
        have hi2 : i = 64 := by omega
        subst hi2
        exact hend _ _ _ _ _ _ ⟨rfl, rfl⟩ hX dX0_deepest_47
      · refine lv_aload_n F.1 F.2.1 dX0_deepest_10 rfl (lv_at hl 0 rfl) ?_
        refine g_sd_us F hX dX0_deepest_11 ?_
        refine lv_iload_n F.1 F.2.1 dX0_deepest_14 rfl (lv_at hl 2 rfl) ?_
        refine ld_sd_us F hX (by omega) dX0_deepest_15 ?_
        refine nv_ifB_eq (tgt := 38) F dX0_deepest_16 (by decide) (fun c16 => ?_) (fun c16 => ?_)
        · have hE : mxU us de (i + 1) = mxU us de i := if_neg (fun q => by rw [c16] at q; cases q.1)
          refine lv_iload_n F.1 F.2.1 dX0_deepest_38 rfl (lv_at hl 1 rfl) ?_
          refine lv_istore_n (lv' := [(1, .int _), (0, .ref _), (2, .int _)]) F.1 F.2.1 dX0_deepest_39 rfl hl (by decide) rfl (fun ls hl => ?_)
          refine nv_iinc (lv' := [(2, .int _), (1, .int _), (0, .ref _)]) F dX0_deepest_40 hl (k := 2) rfl (by decide) rfl (fun ls hl => ?_)
          refine lv_goto (tgt := 4) F.1 F.2.1 dX0_deepest_43 (by decide) ?_
          exact ih (i + 1) _ _ _ (by omega) (by omega) hX (by rw [hE]; exact (lv_sub hl [2, 1, 0] rfl))
        · have hdi := hde i c16
          refine lv_aload_n F.1 F.2.1 dX0_deepest_19 rfl (lv_at hl 0 rfl) ?_
          refine g_sd_de F hX dX0_deepest_20 ?_
          refine lv_iload_n F.1 F.2.1 dX0_deepest_23 rfl (lv_at hl 2 rfl) ?_
          refine ld_sd_de F hX (by omega) dX0_deepest_24 ?_
          refine lv_iload_n F.1 F.2.1 dX0_deepest_25 rfl (lv_at hl 1 rfl) ?_
          refine nv_icmp_le (tgt := 38) F dX0_deepest_26 (by decide) (by omega) (by omega) (fun c26 => ?_) (fun c26 => ?_)
          · have hE : mxU us de (i + 1) = mxU us de i := if_neg (fun q => by omega)
            refine lv_iload_n F.1 F.2.1 dX0_deepest_38 rfl (lv_at hl 1 rfl) ?_
            refine lv_istore_n (lv' := [(1, .int _), (0, .ref _), (2, .int _)]) F.1 F.2.1 dX0_deepest_39 rfl hl (by decide) rfl (fun ls hl => ?_)
            refine nv_iinc (lv' := [(2, .int _), (1, .int _), (0, .ref _)]) F dX0_deepest_40 hl (k := 2) rfl (by decide) rfl (fun ls hl => ?_)
            refine lv_goto (tgt := 4) F.1 F.2.1 dX0_deepest_43 (by decide) ?_
            exact ih (i + 1) _ _ _ (by omega) (by omega) hX (by rw [hE]; exact (lv_sub hl [2, 1, 0] rfl))
          · have hE : mxU us de (i + 1) = de i := if_pos ⟨c16, c26⟩
            refine lv_aload_n F.1 F.2.1 dX0_deepest_29 rfl (lv_at hl 0 rfl) ?_
            refine g_sd_de F hX dX0_deepest_30 ?_
            refine lv_iload_n F.1 F.2.1 dX0_deepest_33 rfl (lv_at hl 2 rfl) ?_
            refine ld_sd_de F hX (by omega) dX0_deepest_34 ?_
            refine lv_goto (tgt := 39) F.1 F.2.1 dX0_deepest_35 (by decide) ?_
            refine lv_istore_n (lv' := [(1, .int _), (0, .ref _), (2, .int _)]) F.1 F.2.1 dX0_deepest_39 rfl hl (by decide) rfl (fun ls hl => ?_)
            refine nv_iinc (lv' := [(2, .int _), (1, .int _), (0, .ref _)]) F dX0_deepest_40 hl (k := 2) rfl (by decide) rfl (fun ls hl => ?_)
            refine lv_goto (tgt := 4) F.1 F.2.1 dX0_deepest_43 (by decide) ?_
            exact ih (i + 1) _ _ _ (by omega) (by omega) hX (by rw [hE]; exact (lv_sub hl [2, 1, 0] rfl))
  refine lv_iconst (v := nI 0) F.1 F.2.1 dX0_deepest_0 (by decide +kernel) ?_
  refine lv_istore_n (lv' := [(1, .int _), (0, .ref _)]) F.1 F.2.1 dX0_deepest_1 rfl hl (by decide) rfl (fun ls hl => ?_)
  refine lv_iconst (v := nI 0) F.1 F.2.1 dX0_deepest_2 (by decide +kernel) ?_
  refine lv_istore_n (lv' := [(2, .int _), (1, .int _), (0, .ref _)]) F.1 F.2.1 dX0_deepest_3 rfl hl (by decide) rfl (fun ls hl => ?_)
  exact loop 65 0 _ _ _ (by omega) (by omega) hX (lv_sub hl [2, 1, 0] rfl)
set_option maxRecDepth 100000 in
theorem k_X0_deepest {p : Program} {l : Launch} {e : Env} {R : Room} {s : State} {m : MethodId} {args : Array Value} {below : List Frame} {meth : Method} {c : Code} {H : Heap} {locs : List Loc} {cells slots : Nat} {Q : State → Prop} {cc : ByteArray} {pc : Nat} {ls : Array Slot} {rest : List Value} {nL : Nat} {D : va_G} {A : Nat → Prop} {h : Nat → Nat} {cs : Nat → ClassId} {dp bc kc : Nat} {di de lo ke : Nat → Nat} {us : Nat → Bool} {va : Nat → Int32}  (F : CallFix p m c cc nL s args lw_all RX0) (hde : ∀ b, us b = true → de b ≤ 6) (hX : wX D (sdT cs) A s (sdW h cs (dp, bc, kc, di, us, de, lo, ke, va)) H locs) (hR : 1 ≤ R.frames ∧ 22 ≤ R.locals) (hcs : cells ≤ R.cells ∧ slots ≤ R.slots) (hls : ls.size = nL) (hrest : (rest.map fun v => v.category).sum ≤ 8) (hdg : decode cc pc = .ok (.invokevirtual 61, 3)) (kk : ∀ (H1 : Heap) (locs1 : List Loc), wX D (sdT cs) A s (sdW h cs (dp, bc, kc, di, us, de, lo, ke, va)) H1 locs1 → W p l e R s m args below meth c H1 locs1 cells slots Q (F0 m (pc + 3) ls (.int (nI (mxU us de 64)) :: rest))) : W p l e R s m args below meth c H locs cells slots Q (F0 m pc ls (.ref (h 0) :: rest)) :=
  c_calli (C := RX0) (As := []) (rest := rest) F (m_X0_deepest l D h cs hde) q102 q103 q104 q13 q105 (n := 0) rfl (by decide +kernel) ⟨hR.1, by have := hR.2; exact this⟩ rfl rfl hX (ci := 0) rfl rfl rfl rfl hls hrest hcs hdg (fun r u H1 locs1 hp hX1 => by obtain ⟨rfl, rfl⟩ := hp; exact kk H1 locs1 hX1)
set_option maxHeartbeats 4000000 in
set_option maxRecDepth 100000 in
/-- ofDepth(d) -/
theorem m_X0_ofDepth (l : Launch) (D : va_G) (h : Nat → Nat) (cs : Nat → ClassId) {dp bc kc : Nat} {di de lo ke : Nat → Nat} {us : Nat → Bool} {va : Nat → Int32} {d : Int32}  : cI l yX0_ofDepth cX0_ofDepth 4 (some .int) ({ frames := 0, cells := 0, slots := 0, locals := 0 } : Room) D (sdT cs) (sdW h cs (dp, bc, kc, di, us, de, lo, ke, va)) [.ref (h 0), .int d] (sdW h cs) (fun (r : Int32) (u : SD) => u = (dp, bc, kc, di, us, de, lo, ke, va) ∧ r = nI (cN (fun b => us b && decide (nI (de b) = d)) 64)) := by
  refine c_int (own := RX0) (by decide) rfl (Nat.le_of_ble_eq_true rfl) ?_
  intro p e s m below meth c A Q ls R args hRm F hend hX hl
  have hl : lv_has ls 4 [(0, .ref (h 0)), (1, .int d)] := hl
  have loop : ∀ (n i : Nat) (H : Heap) (locs : List Loc) (ls : Array Slot), 65 ≤ i + n → i ≤ 64 → wX D (sdT cs) A s (sdW h cs (dp, bc, kc, di, us, de, lo, ke, va)) H locs → lv_has ls 4 [(0, .ref (h 0)), (1, .int d), (2, .int (nI (cN (fun b => us b && decide (nI (de b) = d)) i))), (3, .int (nI i))] → W p l e R s m args below meth c H locs 0 0 Q (F0 m 4 ls []) := by
    intro n
    induction n with
    | zero => intro i H locs ls h1 h2; omega
    | succ n ih =>
      intro i H locs ls hn hi hX hl
      refine lv_iload_n F.1 F.2.1 dX0_ofDepth_4 rfl (lv_at hl 3 rfl) ?_
      refine lv_bipush (v := nI 64) F.1 F.2.1 dX0_ofDepth_5 (by decide +kernel) ?_
      refine nv_icmp_ge (tgt := 43) F dX0_ofDepth_7 (by decide) (by omega) (by omega) (fun c7 => ?_) (fun c7 => ?_)
      · refine lv_iload_n F.1 F.2.1 dX0_ofDepth_43 rfl (lv_at hl 2 rfl) ?_
        have hi2 : i = 64 := by omega
        subst hi2
        exact hend _ _ _ _ _ _ ⟨rfl, rfl⟩ hX dX0_ofDepth_44
      · refine lv_iload_n F.1 F.2.1 dX0_ofDepth_10 rfl (lv_at hl 2 rfl) ?_
        refine lv_aload_n F.1 F.2.1 dX0_ofDepth_11 rfl (lv_at hl 0 rfl) ?_
        refine g_sd_us F hX dX0_ofDepth_12 ?_
        refine lv_iload_n F.1 F.2.1 dX0_ofDepth_15 rfl (lv_at hl 3 rfl) ?_
        refine ld_sd_us F hX (by omega) dX0_ofDepth_16 ?_
        refine nv_ifB_eq (tgt := 34) F dX0_ofDepth_17 (by decide) (fun c17 => ?_) (fun c17 => ?_)
        · have hE : cN (fun b => us b && decide (nI (de b) = d)) (i + 1) = cN (fun b => us b && decide (nI (de b) = d)) i + 0 := cN_F (by simp [c17])
          refine lv_iconst (v := nI 0) F.1 F.2.1 dX0_ofDepth_34 (by decide +kernel) ?_
          refine nv_iadd F dX0_ofDepth_35 ?_
          refine lv_istore_n (lv' := [(2, .int _), (0, .ref _), (1, .int _), (3, .int _)]) F.1 F.2.1 dX0_ofDepth_36 rfl hl (by decide) rfl (fun ls hl => ?_)
          refine nv_iinc (lv' := [(3, .int _), (2, .int _), (0, .ref _), (1, .int _)]) F dX0_ofDepth_37 hl (k := 3) rfl (by decide) rfl (fun ls hl => ?_)
          refine lv_goto (tgt := 4) F.1 F.2.1 dX0_ofDepth_40 (by decide) ?_
          exact ih (i + 1) _ _ _ (by omega) (by omega) hX (by rw [hE]; exact (lv_sub hl [2, 3, 1, 0] rfl))
        · refine lv_aload_n F.1 F.2.1 dX0_ofDepth_20 rfl (lv_at hl 0 rfl) ?_
          refine g_sd_de F hX dX0_ofDepth_21 ?_
          refine lv_iload_n F.1 F.2.1 dX0_ofDepth_24 rfl (lv_at hl 3 rfl) ?_
          refine ld_sd_de F hX (by omega) dX0_ofDepth_25 ?_
          refine lv_iload_n F.1 F.2.1 dX0_ofDepth_26 rfl (lv_at hl 1 rfl) ?_
          refine lv_icmp_ne (tgt := 34) F.1 F.2.1 dX0_ofDepth_27 (by decide) (fun c27 => ?_) (fun c27 => ?_)
          · have hE : cN (fun b => us b && decide (nI (de b) = d)) (i + 1) = cN (fun b => us b && decide (nI (de b) = d)) i + 0 := cN_F (by simp [c27])
            refine lv_iconst (v := nI 0) F.1 F.2.1 dX0_ofDepth_34 (by decide +kernel) ?_
            refine nv_iadd F dX0_ofDepth_35 ?_
            refine lv_istore_n (lv' := [(2, .int _), (0, .ref _), (1, .int _), (3, .int _)]) F.1 F.2.1 dX0_ofDepth_36 rfl hl (by decide) rfl (fun ls hl => ?_)
            refine nv_iinc (lv' := [(3, .int _), (2, .int _), (0, .ref _), (1, .int _)]) F dX0_ofDepth_37 hl (k := 3) rfl (by decide) rfl (fun ls hl => ?_)
            refine lv_goto (tgt := 4) F.1 F.2.1 dX0_ofDepth_40 (by decide) ?_
            exact ih (i + 1) _ _ _ (by omega) (by omega) hX (by rw [hE]; exact (lv_sub hl [2, 3, 1, 0] rfl))
          · have hE : cN (fun b => us b && decide (nI (de b) = d)) (i + 1) = cN (fun b => us b && decide (nI (de b) = d)) i + 1 := cN_T (by simp [c17, c27])
            refine lv_iconst (v := nI 1) F.1 F.2.1 dX0_ofDepth_30 (by decide +kernel) ?_
            refine lv_goto (tgt := 35) F.1 F.2.1 dX0_ofDepth_31 (by decide) ?_
            refine nv_iadd F dX0_ofDepth_35 ?_
            refine lv_istore_n (lv' := [(2, .int _), (0, .ref _), (1, .int _), (3, .int _)]) F.1 F.2.1 dX0_ofDepth_36 rfl hl (by decide) rfl (fun ls hl => ?_)
            refine nv_iinc (lv' := [(3, .int _), (2, .int _), (0, .ref _), (1, .int _)]) F dX0_ofDepth_37 hl (k := 3) rfl (by decide) rfl (fun ls hl => ?_)
            refine lv_goto (tgt := 4) F.1 F.2.1 dX0_ofDepth_40 (by decide) ?_
            exact ih (i + 1) _ _ _ (by omega) (by omega) hX (by rw [hE]; exact (lv_sub hl [2, 3, 1, 0] rfl))
  refine lv_iconst (v := nI 0) F.1 F.2.1 dX0_ofDepth_0 (by decide +kernel) ?_
  refine lv_istore_n (lv' := [(2, .int _), (0, .ref _), (1, .int _)]) F.1 F.2.1 dX0_ofDepth_1 rfl hl (by decide) rfl (fun ls hl => ?_)
  refine lv_iconst (v := nI 0) F.1 F.2.1 dX0_ofDepth_2 (by decide +kernel) ?_
  refine lv_istore_n (lv' := [(3, .int _), (2, .int _), (0, .ref _), (1, .int _)]) F.1 F.2.1 dX0_ofDepth_3 rfl hl (by decide) rfl (fun ls hl => ?_)
  exact loop 65 0 _ _ _ (by omega) (by omega) hX (lv_sub hl [2, 3, 1, 0] rfl)
end
section
/-! walks of SplitDirectory: split, insert -/
set_option maxHeartbeats 4000000 in
set_option maxRecDepth 100000 in
/-- split(b, ending) -/
theorem m_X0_split (l : Launch) (D : va_G) (h : Nat → Nat) (cs : Nat → ClassId) {dp bc kc : Nat} {di de lo ke : Nat → Nat} {us : Nat → Bool} {va : Nat → Int32} {g : Nat} {T : Nat → Bool} {V : Nat → Int32} (hJ : sJ (dp, bc, kc, di, us, de, lo, ke, va) T V g) (hl4 : 4 < lo (be dp di g)) : cV l yX0_split cX0_split 9 ({ frames := 1, cells := 0, slots := 0, locals := 23 } : Room) D (sdT cs) (sdW h cs (dp, bc, kc, di, us, de, lo, ke, va)) [.ref (h 0), .int (nI (be dp di g)), .int (nI g)] (sdW h cs) (fun (u : SD) => spR dp bc kc di us de lo g T V u) := by
  refine c_void (own := RX0) (by decide) rfl (Nat.le_of_ble_eq_true rfl) ?_
  intro p e s m below meth c A Q ls R args hRm F hend hX hl
  have hl : lv_has ls 9 [(0, .ref (h 0)), (1, .int (nI (be dp di g))), (2, .int (nI g))] := hl
  obtain ⟨h6, hS, hC, hL4, hL5, -, -, -, he, -⟩ := id hJ
  have hd := sJ_deep hJ hl4
  have hL : ∀ b, us b = true → lo b ≤ 5 := fun b hu => by
    by_cases q : b = be dp di g
    · rw [q]; exact hL5
    · have := hL4 b hu q
      omega
  have hb := hS.lt g
  have hub := (hS.1 g).1
  have hdd := (hS.1 g).2
  have tail : ∀ (dp' : Nat) (di' : Nat → Nat) (H : Heap) (locs : List Loc) (ls : Array Slot), dp' ≤ 6 → (de (be dp di g)) < dp' → dp ≤ dp' → (∀ k, be dp' di' k = be dp di k) → wX D (sdT cs) A s (sdW h cs (dp', bc, kc, di', us, de, lo, ke, va)) H locs → lv_has ls 9 [(0, .ref (h 0)), (1, .int (nI (be dp di g))), (2, .int (nI g)), (3, .int (nI (de (be dp di g))))] → W p l e R s m args below meth c H locs 0 0 Q (F0 m 66 ls []) := by
    intro dp' di' H locs ls h6' hd' hdp hbe hX hl
    obtain ⟨c0, hc0, hu0⟩ := sS_free (e := g) (sS_dp (dp' := dp') hS (fun k => Nat.le_trans (hS.1 k).2 hdp)) h6' hd'
    have hp6 := pw6 dp' h6' 
    refine lv_aload_n F.1 F.2.1 dX0_split_66 rfl (lv_at hl 0 rfl) ?_
    refine k_X0_newBucket F hc0 hu0 hX ⟨by rw [hRm]; decide, by rw [hRm]; decide⟩ ⟨Nat.zero_le _, Nat.zero_le _⟩ hl.1 (Nat.le_of_ble_eq_true rfl) dX0_split_67 (fun r u H locs hp hX => ?_)
    obtain ⟨c1, hc1, huc, rfl, rfl⟩ := hp
    refine lv_istore (lv' := [(4, .int _), (0, .ref _), (1, .int _), (2, .int _), (3, .int _)]) F.1 F.2.1 dX0_split_70 hl (by decide) rfl (fun ls hl => ?_)
    have hbc : be dp di g ≠ c1 := fun q => by rw [q, huc] at hub; cases hub
    have loop3 : ∀ (lo' ke' : Nat → Nat) (va' : Nat → Int32), rI (be dp di g) c1 (de (be dp di g)) ke va lo (lo (be dp di g)) lo' ke' va' → ∀ (n i : Nat) (H : Heap) (locs : List Loc) (ls : Array Slot), 2 ^ dp' + 1 ≤ i + n → i ≤ 2 ^ dp' → wX D (sdT cs) A s (sdW h cs (dp', bc + 1, kc, spD di' (de (be dp di g)) g c1 i, va_up us c1 true, va_up (va_up de (be dp di g) ((de (be dp di g)) + 1)) c1 ((de (be dp di g)) + 1), lo', ke', va')) H locs → lv_has ls 9 [(0, .ref (h 0)), (1, .int (nI (be dp di g))), (2, .int (nI g)), (3, .int (nI (de (be dp di g)))), (4, .int (nI c1)), (6, .int (nI (2 ^ (de (be dp di g)) - 1))), (7, .int (nI i))] → W p l e R s m args below meth c H locs 0 0 Q (F0 m 183 ls []) := by
      intro lo' ke' va' hI n
      induction n with
      | zero => intro i H locs ls h1 h2; omega
      | succ n ih =>
        intro i H locs ls hn hi hX hl
        have hm1 := Nat.mod_le i (2 ^ (de (be dp di g)))
        have hm2 := Nat.mod_le g (2 ^ (de (be dp di g)))
        have hm3 := Nat.div_le_self i (2 ^ (de (be dp di g)))
        refine lv_iload F.1 F.2.1 dX0_split_183 (lv_at hl 6 rfl) ?_
        refine lv_iconst (v := nI 1) F.1 F.2.1 dX0_split_185 (by decide +kernel) ?_
        refine lv_aload_n F.1 F.2.1 dX0_split_186 rfl (lv_at hl 0 rfl) ?_
        refine g_sd_dp F hX dX0_split_187 ?_
        refine nv_shl1 F (by omega) dX0_split_190 ?_
        refine nv_icmp_ge (tgt := 232) F dX0_split_191 (by decide) (by omega) (by omega) (fun c191 => ?_) (fun c191 => ?_)
        · have hi2 : i = 2 ^ dp' := by omega
          subst hi2
          exact hend _ _ _ _ _ (sp_end hS hC hL h6' hd' hdp hbe hc1 huc hI) hX dX0_split_232
        · refine lv_iload F.1 F.2.1 dX0_split_194 (lv_at hl 6 rfl) ?_
          refine lv_iload F.1 F.2.1 dX0_split_196 (lv_at hl 5 rfl) ?_
          refine nv_mask F (by omega) (by omega) dX0_split_198 ?_
          refine lv_iload_n F.1 F.2.1 dX0_split_199 rfl (lv_at hl 2 rfl) ?_
          refine lv_iload F.1 F.2.1 dX0_split_200 (lv_at hl 5 rfl) ?_
          refine nv_mask F (by omega) (by omega) dX0_split_202 ?_
          refine nv_icmp_ne (tgt := 226) F dX0_split_203 (by decide) (by omega) (by omega) (fun c203 => ?_) (fun c203 => ?_)
          · have hE : spD di' (de (be dp di g)) g c1 (i + 1) = spD di' (de (be dp di g)) g c1 i := spD_F (fun q => c203 q.1)
            refine nv_iinc (lv' := [(7, .int _), (0, .ref _), (1, .int _), (2, .int _), (3, .int _), (4, .int _), (6, .int _)]) F dX0_split_226 hl (k := 6) rfl (by decide) rfl (fun ls hl => ?_)
            refine lv_goto (tgt := 183) F.1 F.2.1 dX0_split_229 (by decide) ?_
            exact ih (i + 1) _ _ _ (by omega) (by omega) (by rw [hE]; exact hX) (lv_sub hl [1, 2, 3, 4, 5, 6, 0] rfl)
          · refine lv_iload F.1 F.2.1 dX0_split_206 (lv_at hl 6 rfl) ?_
            refine lv_iload_n F.1 F.2.1 dX0_split_208 rfl (lv_at hl 3 rfl) ?_
            refine nv_ishr F (by omega) (by omega) dX0_split_209 ?_
            refine lv_iconst (v := nI 1) F.1 F.2.1 dX0_split_210 (by decide +kernel) ?_
            refine nv_and1 F (by omega) dX0_split_211 ?_
            refine lv_iconst (v := nI 1) F.1 F.2.1 dX0_split_212 (by decide +kernel) ?_
            refine nv_icmp_ne (tgt := 226) F dX0_split_213 (by decide) (by omega) (by omega) (fun c213 => ?_) (fun c213 => ?_)
            · have hE : spD di' (de (be dp di g)) g c1 (i + 1) = spD di' (de (be dp di g)) g c1 i := spD_F (fun q => c213 q.2)
              refine nv_iinc (lv' := [(7, .int _), (0, .ref _), (1, .int _), (2, .int _), (3, .int _), (4, .int _), (6, .int _)]) F dX0_split_226 hl (k := 6) rfl (by decide) rfl (fun ls hl => ?_)
              refine lv_goto (tgt := 183) F.1 F.2.1 dX0_split_229 (by decide) ?_
              exact ih (i + 1) _ _ _ (by omega) (by omega) (by rw [hE]; exact hX) (lv_sub hl [1, 2, 3, 4, 5, 6, 0] rfl)
            · have hE : spD di' (de (be dp di g)) g c1 (i + 1) = va_up (spD di' (de (be dp di g)) g c1 i) i c1 := spD_T ⟨c203, c213⟩
              refine lv_aload_n F.1 F.2.1 dX0_split_216 rfl (lv_at hl 0 rfl) ?_
              refine g_sd_di F hX dX0_split_217 ?_
              refine lv_iload F.1 F.2.1 dX0_split_220 (lv_at hl 6 rfl) ?_
              refine lv_iload F.1 F.2.1 dX0_split_222 (lv_at hl 4 rfl) ?_
              refine nv_i2b F (by omega) dX0_split_224 ?_
              refine st_sd_di F hX (by omega) (by omega) dX0_split_225 (fun H locs hX => ?_)
              refine nv_iinc (lv' := [(7, .int _), (0, .ref _), (1, .int _), (2, .int _), (3, .int _), (4, .int _), (6, .int _)]) F dX0_split_226 hl (k := 6) rfl (by decide) rfl (fun ls hl => ?_)
              refine lv_goto (tgt := 183) F.1 F.2.1 dX0_split_229 (by decide) ?_
              exact ih (i + 1) _ _ _ (by omega) (by omega) (by rw [hE]; exact hX) (lv_sub hl [1, 2, 3, 4, 5, 6, 0] rfl)
    have loop2 : ∀ (n i : Nat) (lo' ke' : Nat → Nat) (va' : Nat → Int32) (H : Heap) (locs : List Loc) (ls : Array Slot), lo (be dp di g) + 1 ≤ i + n → i ≤ lo (be dp di g) → rI (be dp di g) c1 (de (be dp di g)) ke va lo i lo' ke' va' → wX D (sdT cs) A s (sdW h cs (dp', bc + 1, kc, di', va_up us c1 true, va_up (va_up de (be dp di g) ((de (be dp di g)) + 1)) c1 ((de (be dp di g)) + 1), lo', ke', va')) H locs → lv_has ls 9 [(0, .ref (h 0)), (1, .int (nI (be dp di g))), (2, .int (nI g)), (3, .int (nI (de (be dp di g)))), (4, .int (nI c1)), (5, .int (nI (lo (be dp di g)))), (6, .int (nI i))] → W p l e R s m args below meth c H locs 0 0 Q (F0 m 111 ls []) := by
      intro n
      induction n with
      | zero => intro i lo' ke' va' H locs ls h1 h2; omega
      | succ n ih =>
        intro i lo' ke' va' H locs ls hn hi hI hX hl
        refine lv_iload F.1 F.2.1 dX0_split_111 (lv_at hl 6 rfl) ?_
        refine lv_iload F.1 F.2.1 dX0_split_113 (lv_at hl 5 rfl) ?_
        refine nv_icmp_ge (tgt := 173) F dX0_split_115 (by decide) (by omega) (by omega) (fun c115 => ?_) (fun c115 => ?_)
        · have hi2 : i = lo (be dp di g) := by omega
          subst hi2
          refine lv_iconst (v := nI 1) F.1 F.2.1 dX0_split_173 (by decide +kernel) ?_
          refine lv_iload_n F.1 F.2.1 dX0_split_174 rfl (lv_at hl 3 rfl) ?_
          refine nv_shl1 F (by omega) dX0_split_175 ?_
          refine lv_iconst (v := nI 1) F.1 F.2.1 dX0_split_176 (by decide +kernel) ?_
          refine nv_isub F Nat.one_le_two_pow dX0_split_177 ?_
          refine lv_istore (lv' := [(6, .int _), (0, .ref _), (1, .int _), (2, .int _), (3, .int _), (4, .int _), (5, .int _)]) F.1 F.2.1 dX0_split_178 hl (by decide) rfl (fun ls hl => ?_)
          refine lv_iconst (v := nI 0) F.1 F.2.1 dX0_split_180 (by decide +kernel) ?_
          refine lv_istore (lv' := [(7, .int _), (6, .int _), (0, .ref _), (1, .int _), (2, .int _), (3, .int _), (4, .int _), (5, .int _)]) F.1 F.2.1 dX0_split_181 hl (by decide) rfl (fun ls hl => ?_)
          exact loop3 lo' ke' va' hI (2 ^ dp' + 1) 0 _ _ _ (by omega) (Nat.zero_le _) (by rw [spD_0]; exact hX) (lv_sub hl [2, 3, 4, 5, 6, 1, 0] rfl)
        · have hk1 := (hC.1 _ hub i c115).1
          have hk2 := Nat.div_le_self (ke ((be dp di g) * 5 + i)) (2 ^ (de (be dp di g)))
          have hs1 := hI.1
          have hs4 := hI.2.2.2.1 i (Nat.le_refl i) (by omega)
          refine lv_aload_n F.1 F.2.1 dX0_split_118 rfl (lv_at hl 0 rfl) ?_
          refine g_sd_ke F hX dX0_split_119 ?_
          refine lv_iload_n F.1 F.2.1 dX0_split_122 rfl (lv_at hl 1 rfl) ?_
          refine lv_iconst (v := nI 5) F.1 F.2.1 dX0_split_123 (by decide +kernel) ?_
          refine nv_imul F dX0_split_124 ?_
          refine lv_iload F.1 F.2.1 dX0_split_125 (lv_at hl 6 rfl) ?_
          refine nv_iadd F dX0_split_127 ?_
          refine ld_sd_ke F hX (by omega) dX0_split_128 ?_
          rw [hs4.1]
          refine lv_istore (lv' := [(7, .int _), (0, .ref _), (1, .int _), (2, .int _), (3, .int _), (4, .int _), (5, .int _), (6, .int _)]) F.1 F.2.1 dX0_split_129 hl (by decide) rfl (fun ls hl => ?_)
          refine lv_iload F.1 F.2.1 dX0_split_131 (lv_at hl 0 rfl) ?_
          refine lv_iload_n F.1 F.2.1 dX0_split_133 rfl (lv_at hl 4 rfl) ?_
          refine nv_ishr F (by omega) (by omega) dX0_split_134 ?_
          refine lv_iconst (v := nI 1) F.1 F.2.1 dX0_split_135 (by decide +kernel) ?_
          refine nv_and1 F (by omega) dX0_split_136 ?_
          refine nv_if_ne (tgt := 144) F dX0_split_137 (by decide) (by omega) (fun c137 => ?_) (fun c137 => ?_)
          · have hstep := rI_step (t0 := c1) hI hbc c115 hL5 (fun i1 i2 h1 h2 => hC.2.1 _ hub i1 i2 h1 h2) (Or.inr rfl) (⟨fun _ => by omega, fun _ => rfl⟩)
            refine lv_iload F.1 F.2.1 dX0_split_144 (lv_at hl 5 rfl) ?_
            refine lv_istore (lv' := [(8, .int _), (7, .int _), (0, .ref _), (1, .int _), (2, .int _), (3, .int _), (4, .int _), (5, .int _), (6, .int _)]) F.1 F.2.1 dX0_split_146 hl (by decide) rfl (fun ls hl => ?_)
            refine lv_aload_n F.1 F.2.1 dX0_split_148 rfl (lv_at hl 2 rfl) ?_
            refine lv_iload F.1 F.2.1 dX0_split_149 (lv_at hl 0 rfl) ?_
            refine lv_iload F.1 F.2.1 dX0_split_151 (lv_at hl 1 rfl) ?_
            refine lv_aload_n F.1 F.2.1 dX0_split_153 rfl (lv_at hl 2 rfl) ?_
            refine g_sd_va F hX dX0_split_154 ?_
            refine lv_iload_n F.1 F.2.1 dX0_split_157 rfl (lv_at hl 3 rfl) ?_
            refine lv_iconst (v := nI 5) F.1 F.2.1 dX0_split_158 (by decide +kernel) ?_
            refine nv_imul F dX0_split_159 ?_
            refine lv_iload F.1 F.2.1 dX0_split_160 (lv_at hl 8 rfl) ?_
            refine nv_iadd F dX0_split_162 ?_
            refine ld_sd_va F hX (by omega) dX0_split_163 ?_
            rw [hs4.2]
            refine k_X0_append F (by omega) (by omega) (by omega) hX ⟨by rw [hRm]; decide, by rw [hRm]; decide⟩ ⟨Nat.zero_le _, Nat.zero_le _⟩ hl.1 (Nat.le_of_ble_eq_true rfl) dX0_split_164 (fun u H locs hp hX => ?_)
            obtain rfl := hp
            refine nv_iinc (lv' := [(6, .int _), (8, .int _), (7, .int _), (0, .ref _), (1, .int _), (2, .int _), (3, .int _), (4, .int _), (5, .int _)]) F dX0_split_167 hl (k := 8) rfl (by decide) rfl (fun ls hl => ?_)
            refine lv_goto (tgt := 111) F.1 F.2.1 dX0_split_170 (by decide) ?_
            exact ih (i + 1) _ _ _ _ _ _ (by omega) (by omega) hstep hX (lv_sub hl [3, 4, 5, 6, 7, 8, 0] rfl)
          · have hstep := rI_step (t0 := be dp di g) hI hbc c115 hL5 (fun i1 i2 h1 h2 => hC.2.1 _ hub i1 i2 h1 h2) (Or.inl rfl) (⟨fun q => absurd q hbc, fun q => by omega⟩)
            refine lv_iload_n F.1 F.2.1 dX0_split_140 rfl (lv_at hl 2 rfl) ?_
            refine lv_goto (tgt := 146) F.1 F.2.1 dX0_split_141 (by decide) ?_
            refine lv_istore (lv' := [(8, .int _), (7, .int _), (0, .ref _), (1, .int _), (2, .int _), (3, .int _), (4, .int _), (5, .int _), (6, .int _)]) F.1 F.2.1 dX0_split_146 hl (by decide) rfl (fun ls hl => ?_)
            refine lv_aload_n F.1 F.2.1 dX0_split_148 rfl (lv_at hl 2 rfl) ?_
            refine lv_iload F.1 F.2.1 dX0_split_149 (lv_at hl 0 rfl) ?_
            refine lv_iload F.1 F.2.1 dX0_split_151 (lv_at hl 1 rfl) ?_
            refine lv_aload_n F.1 F.2.1 dX0_split_153 rfl (lv_at hl 2 rfl) ?_
            refine g_sd_va F hX dX0_split_154 ?_
            refine lv_iload_n F.1 F.2.1 dX0_split_157 rfl (lv_at hl 3 rfl) ?_
            refine lv_iconst (v := nI 5) F.1 F.2.1 dX0_split_158 (by decide +kernel) ?_
            refine nv_imul F dX0_split_159 ?_
            refine lv_iload F.1 F.2.1 dX0_split_160 (lv_at hl 8 rfl) ?_
            refine nv_iadd F dX0_split_162 ?_
            refine ld_sd_va F hX (by omega) dX0_split_163 ?_
            rw [hs4.2]
            refine k_X0_append F (by omega) (by omega) (by omega) hX ⟨by rw [hRm]; decide, by rw [hRm]; decide⟩ ⟨Nat.zero_le _, Nat.zero_le _⟩ hl.1 (Nat.le_of_ble_eq_true rfl) dX0_split_164 (fun u H locs hp hX => ?_)
            obtain rfl := hp
            refine nv_iinc (lv' := [(6, .int _), (8, .int _), (7, .int _), (0, .ref _), (1, .int _), (2, .int _), (3, .int _), (4, .int _), (5, .int _)]) F dX0_split_167 hl (k := 8) rfl (by decide) rfl (fun ls hl => ?_)
            refine lv_goto (tgt := 111) F.1 F.2.1 dX0_split_170 (by decide) ?_
            exact ih (i + 1) _ _ _ _ _ _ (by omega) (by omega) hstep hX (lv_sub hl [3, 4, 5, 6, 7, 8, 0] rfl)
    refine lv_aload_n F.1 F.2.1 dX0_split_72 rfl (lv_at hl 1 rfl) ?_
    refine g_sd_de F hX dX0_split_73 ?_
    refine lv_iload_n F.1 F.2.1 dX0_split_76 rfl (lv_at hl 2 rfl) ?_
    refine lv_iload_n F.1 F.2.1 dX0_split_77 rfl (lv_at hl 4 rfl) ?_
    refine lv_iconst (v := nI 1) F.1 F.2.1 dX0_split_78 (by decide +kernel) ?_
    refine nv_iadd F dX0_split_79 ?_
    refine nv_i2b F (by omega) dX0_split_80 ?_
    refine st_sd_de F hX (by omega) (by omega) dX0_split_81 (fun H locs hX => ?_)
    refine lv_aload_n F.1 F.2.1 dX0_split_82 rfl (lv_at hl 1 rfl) ?_
    refine g_sd_de F hX dX0_split_83 ?_
    refine lv_iload F.1 F.2.1 dX0_split_86 (lv_at hl 0 rfl) ?_
    refine lv_iload_n F.1 F.2.1 dX0_split_88 rfl (lv_at hl 4 rfl) ?_
    refine lv_iconst (v := nI 1) F.1 F.2.1 dX0_split_89 (by decide +kernel) ?_
    refine nv_iadd F dX0_split_90 ?_
    refine nv_i2b F (by omega) dX0_split_91 ?_
    refine st_sd_de F hX (by omega) (by omega) dX0_split_92 (fun H locs hX => ?_)
    refine lv_aload_n F.1 F.2.1 dX0_split_93 rfl (lv_at hl 1 rfl) ?_
    refine g_sd_lo F hX dX0_split_94 ?_
    refine lv_iload_n F.1 F.2.1 dX0_split_97 rfl (lv_at hl 2 rfl) ?_
    refine ld_sd_lo F hX (by omega) dX0_split_98 ?_
    rw [va_up_ne _ _ hbc]
    refine lv_istore (lv' := [(5, .int _), (4, .int _), (0, .ref _), (1, .int _), (2, .int _), (3, .int _)]) F.1 F.2.1 dX0_split_99 hl (by decide) rfl (fun ls hl => ?_)
    refine lv_aload_n F.1 F.2.1 dX0_split_101 rfl (lv_at hl 2 rfl) ?_
    refine g_sd_lo F hX dX0_split_102 ?_
    refine lv_iload_n F.1 F.2.1 dX0_split_105 rfl (lv_at hl 3 rfl) ?_
    refine lv_iconst (v := nI 0) F.1 F.2.1 dX0_split_106 (by decide +kernel) ?_
    refine st_sd_lo F hX (by omega) (by omega) dX0_split_107 (fun H locs hX => ?_)
    refine lv_iconst (v := nI 0) F.1 F.2.1 dX0_split_108 (by decide +kernel) ?_
    refine lv_istore (lv' := [(6, .int _), (5, .int _), (4, .int _), (0, .ref _), (1, .int _), (2, .int _), (3, .int _)]) F.1 F.2.1 dX0_split_109 hl (by decide) rfl (fun ls hl => ?_)
    exact loop2 (lo (be dp di g) + 1) 0 _ _ _ _ _ _ (by omega) (Nat.zero_le _) (rI_0 hbc) hX (lv_sub hl [3, 4, 5, 6, 2, 1, 0] rfl)
  have loop1 : dp ≤ 5 → (de (be dp di g)) = dp → ∀ (n i : Nat) (H : Heap) (locs : List Loc) (ls : Array Slot), 2 ^ dp + 1 ≤ i + n → i ≤ 2 ^ dp → wX D (sdT cs) A s (sdW h cs (dp, bc, kc, va_cpy di di 0 (2 ^ dp) i, us, de, lo, ke, va)) H locs → lv_has ls 9 [(0, .ref (h 0)), (1, .int (nI (be dp di g))), (2, .int (nI g)), (3, .int (nI (de (be dp di g)))), (4, .int (nI i))] → W p l e R s m args below meth c H locs 0 0 Q (F0 m 18 ls []) := by
    intro h5 hdp n
    have hp5 : 2 ^ dp ≤ 32 := Nat.pow_le_pow_right (n := 2) (j := 5) (by omega) h5
    induction n with
    | zero => intro i H locs ls h1 h2; omega
    | succ n ih =>
      intro i H locs ls hn hi hX hl
      refine lv_iload F.1 F.2.1 dX0_split_18 (lv_at hl 4 rfl) ?_
      refine lv_iconst (v := nI 1) F.1 F.2.1 dX0_split_20 (by decide +kernel) ?_
      refine lv_aload_n F.1 F.2.1 dX0_split_21 rfl (lv_at hl 0 rfl) ?_
      refine g_sd_dp F hX dX0_split_22 ?_
      refine nv_shl1 F (by omega) dX0_split_25 ?_
      refine nv_icmp_ge (tgt := 56) F dX0_split_26 (by decide) (by omega) (by omega) (fun c26 => ?_) (fun c26 => ?_)
      · have hi2 : i = 2 ^ dp := by omega
        subst hi2
        refine lv_aload_n F.1 F.2.1 dX0_split_56 rfl (lv_at hl 0 rfl) ?_
        refine lv_dup F.1 F.2.1 dX0_split_57 rfl ?_
        refine g_sd_dp F hX dX0_split_58 ?_
        refine lv_iconst (v := nI 1) F.1 F.2.1 dX0_split_61 (by decide +kernel) ?_
        refine nv_iadd F dX0_split_62 ?_
        refine p_sd_dp F hX dX0_split_63 (fun H locs hX => ?_)
        exact tail (dp + 1) _ _ _ _ (by omega) (by omega) (by omega) dir_double hX (lv_sub hl [0, 1, 2, 3] rfl)
      · have hdi := di_lt hS c26
        have hE := cpy_step di 0 (2 ^ dp) i
        rw [Nat.zero_add, Nat.add_comm (2 ^ dp) i] at hE
        refine lv_aload_n F.1 F.2.1 dX0_split_29 rfl (lv_at hl 0 rfl) ?_
        refine g_sd_di F hX dX0_split_30 ?_
        refine lv_iload F.1 F.2.1 dX0_split_33 (lv_at hl 4 rfl) ?_
        refine lv_iconst (v := nI 1) F.1 F.2.1 dX0_split_35 (by decide +kernel) ?_
        refine lv_aload_n F.1 F.2.1 dX0_split_36 rfl (lv_at hl 0 rfl) ?_
        refine g_sd_dp F hX dX0_split_37 ?_
        refine nv_shl1 F (by omega) dX0_split_40 ?_
        refine nv_iadd F dX0_split_41 ?_
        refine lv_aload_n F.1 F.2.1 dX0_split_42 rfl (lv_at hl 0 rfl) ?_
        refine g_sd_di F hX dX0_split_43 ?_
        refine lv_iload F.1 F.2.1 dX0_split_46 (lv_at hl 4 rfl) ?_
        refine ld_sd_di F hX (by omega) dX0_split_48 ?_
        rw [pk_cpy_out (Or.inl c26)]
        refine st_sd_di F hX (by omega) (by omega) dX0_split_49 (fun H locs hX => ?_)
        refine nv_iinc (lv' := [(4, .int _), (0, .ref _), (1, .int _), (2, .int _), (3, .int _)]) F dX0_split_50 hl (k := 4) rfl (by decide) rfl (fun ls hl => ?_)
        refine lv_goto (tgt := 18) F.1 F.2.1 dX0_split_53 (by decide) ?_
        exact ih (i + 1) _ _ _ (by omega) (by omega) (by rw [← hE]; exact hX) (lv_sub hl [1, 2, 3, 4, 0] rfl)
  refine lv_aload_n F.1 F.2.1 dX0_split_0 rfl (lv_at hl 0 rfl) ?_
  refine g_sd_de F hX dX0_split_1 ?_
  refine lv_iload_n F.1 F.2.1 dX0_split_4 rfl (lv_at hl 1 rfl) ?_
  refine ld_sd_de F hX (by omega) dX0_split_5 ?_
  refine lv_istore_n (lv' := [(3, .int _), (0, .ref _), (1, .int _), (2, .int _)]) F.1 F.2.1 dX0_split_6 rfl hl (by decide) rfl (fun ls hl => ?_)
  refine lv_iload_n F.1 F.2.1 dX0_split_7 rfl (lv_at hl 0 rfl) ?_
  refine lv_aload_n F.1 F.2.1 dX0_split_8 rfl (lv_at hl 1 rfl) ?_
  refine g_sd_dp F hX dX0_split_9 ?_
  refine nv_icmp_ne (tgt := 66) F dX0_split_12 (by decide) (by omega) (by omega) (fun c12 => ?_) (fun c12 => ?_)
  · exact tail dp di _ _ _ h6 (by omega) (Nat.le_refl _) (fun _ => rfl) hX (lv_sub hl [1, 2, 3, 0] rfl)
  · refine lv_iconst (v := nI 0) F.1 F.2.1 dX0_split_15 (by decide +kernel) ?_
    refine lv_istore (lv' := [(4, .int _), (3, .int _), (0, .ref _), (1, .int _), (2, .int _)]) F.1 F.2.1 dX0_split_16 hl (by decide) rfl (fun ls hl => ?_)
    exact loop1 (by omega) c12 (2 ^ dp + 1) 0 _ _ _ (by omega) (Nat.zero_le _) (by rw [cpy_0]; exact hX) (lv_sub hl [2, 3, 4, 1, 0] rfl)
set_option maxRecDepth 100000 in
theorem k_X0_split {p : Program} {l : Launch} {e : Env} {R : Room} {s : State} {m : MethodId} {args : Array Value} {below : List Frame} {meth : Method} {c : Code} {H : Heap} {locs : List Loc} {cells slots : Nat} {Q : State → Prop} {cc : ByteArray} {pc : Nat} {ls : Array Slot} {rest : List Value} {nL : Nat} {D : va_G} {A : Nat → Prop} {h : Nat → Nat} {cs : Nat → ClassId} {dp bc kc : Nat} {di de lo ke : Nat → Nat} {us : Nat → Bool} {va : Nat → Int32} {g : Nat} {T : Nat → Bool} {V : Nat → Int32} (F : CallFix p m c cc nL s args lw_all RX0) (hJ : sJ (dp, bc, kc, di, us, de, lo, ke, va) T V g) (hl4 : 4 < lo (be dp di g)) (hX : wX D (sdT cs) A s (sdW h cs (dp, bc, kc, di, us, de, lo, ke, va)) H locs) (hR : 2 ≤ R.frames ∧ 51 ≤ R.locals) (hcs : cells ≤ R.cells ∧ slots ≤ R.slots) (hls : ls.size = nL) (hrest : (rest.map fun v => v.category).sum ≤ 8) (hdg : decode cc pc = .ok (.invokevirtual 53, 3)) (kk : ∀ (u : SD) (H1 : Heap) (locs1 : List Loc), (spR dp bc kc di us de lo g T V u) → wX D (sdT cs) A s (sdW h cs u) H1 locs1 → W p l e R s m args below meth c H1 locs1 cells slots Q (F0 m (pc + 3) ls rest)) : W p l e R s m args below meth c H locs cells slots Q (F0 m pc ls (.int (nI g) :: .int (nI (be dp di g)) :: .ref (h 0) :: rest)) :=
  c_callv (C := RX0) (As := [.int (nI (be dp di g)), .int (nI g)]) (rest := rest) F (m_X0_split l D h cs hJ hl4) q78 q80 qs4 q13 q81 (n := 2) rfl (by decide +kernel) ⟨hR.1, by have := hR.2; exact this⟩ rfl rfl hX (ci := 0) rfl rfl rfl rfl hls hrest hcs hdg (kk)
set_option maxHeartbeats 4000000 in
set_option maxRecDepth 100000 in
/-- insert(key, value), a key that is not there -/
theorem m_X0_insert (l : Launch) (D : va_G) (h : Nat → Nat) (cs : Nat → ClassId) {dp bc kc : Nat} {di de lo ke : Nat → Nat} {us : Nat → Bool} {va : Nat → Int32} {j : Nat} {v : Int32} {T : Nat → Bool} {V : Nat → Int32} (hI : sI (dp, bc, kc, di, us, de, lo, ke, va) T V) (hj : j < 256) (hT : T j = false) : cV l yX0_insert cX0_insert 5 ({ frames := 2, cells := 0, slots := 0, locals := 51 } : Room) D (sdT cs) (sdW h cs (dp, bc, kc, di, us, de, lo, ke, va)) [.ref (h 0), .int (nI j), .int v] (sdW h cs) (fun (u : SD) => sI u (va_up T j true) (va_up V j v)) := by
  refine c_void (own := RX0) (by decide) rfl (Nat.le_of_ble_eq_true rfl) ?_
  intro p e s m below meth c A Q ls R args hRm F hend hX hl
  have hl : lv_has ls 5 [(0, .ref (h 0)), (1, .int (nI j)), (2, .int v)] := hl
  have loop : ∀ (n r : Nat) (dp bc kc : Nat) (di : Nat → Nat) (us : Nat → Bool) (de lo ke : Nat → Nat) (va : Nat → Int32) (H : Heap) (locs : List Loc) (ls : Array Slot), 7 ≤ r + n → r ≤ 6 → r ≤ de (be dp di j) → sJ (dp, bc, kc, di, us, de, lo, ke, va) (va_up T j true) (va_up V j v) j → wX D (sdT cs) A s (sdW h cs (dp, bc, kc, di, us, de, lo, ke, va)) H locs → lv_has ls 5 [(0, .ref (h 0)), (1, .int (nI j)), (2, .int v), (3, .int (nI (be dp di j))), (4, .int (nI r))] → W p l e R s m args below meth c H locs 0 0 Q (F0 m 26 ls []) := by
    intro n
    induction n with
    | zero => intro r dp bc kc di us de lo ke va H locs ls h1 h2; omega
    | succ n ih =>
      intro r dp bc kc di us de lo ke va H locs ls hn hr hrd hJ hX hl
      have hb := hJ.2.1.lt j
      have hlo5 := hJ.2.2.2.2.1
      refine lv_iload F.1 F.2.1 dX0_insert_26 (lv_at hl 4 rfl) ?_
      refine lv_bipush (v := nI 6) F.1 F.2.1 dX0_insert_28 (by decide +kernel) ?_
      refine nv_icmp_ge (tgt := 61) F dX0_insert_30 (by decide) (by omega) (by omega) (fun c30 => ?_) (fun c30 => ?_)
      · have hfin := sJ_end hJ (Or.inr (by omega))
        exact hend _ _ _ _ _ hfin hX dX0_insert_61
      · refine lv_aload_n F.1 F.2.1 dX0_insert_33 rfl (lv_at hl 0 rfl) ?_
        refine g_sd_lo F hX dX0_insert_34 ?_
        refine lv_iload_n F.1 F.2.1 dX0_insert_37 rfl (lv_at hl 3 rfl) ?_
        refine ld_sd_lo F hX (by omega) dX0_insert_38 ?_
        refine lv_iconst (v := nI 4) F.1 F.2.1 dX0_insert_39 (by decide +kernel) ?_
        refine nv_icmp_le (tgt := 61) F dX0_insert_40 (by decide) (by omega) (by omega) (fun c40 => ?_) (fun c40 => ?_)
        · have hfin := sJ_end hJ (Or.inl c40)
          exact hend _ _ _ _ _ hfin hX dX0_insert_61
        · refine lv_aload_n F.1 F.2.1 dX0_insert_43 rfl (lv_at hl 0 rfl) ?_
          refine lv_iload_n F.1 F.2.1 dX0_insert_44 rfl (lv_at hl 3 rfl) ?_
          refine lv_iload_n F.1 F.2.1 dX0_insert_45 rfl (lv_at hl 1 rfl) ?_
          refine k_X0_split F hJ c40 hX ⟨by rw [hRm]; decide, by rw [hRm]; decide⟩ ⟨Nat.zero_le _, Nat.zero_le _⟩ hl.1 (Nat.le_of_ble_eq_true rfl) dX0_insert_46 (fun u H locs hp hX => ?_)
          obtain ⟨hJ, dp1, bc1, kc1, di1, us1, de1, lo1, ke1, va1, rfl, hde1⟩ := sJ_split hJ c40 hp
          refine lv_aload_n F.1 F.2.1 dX0_insert_49 rfl (lv_at hl 0 rfl) ?_
          refine lv_iload_n F.1 F.2.1 dX0_insert_50 rfl (lv_at hl 1 rfl) ?_
          refine k_X0_bucketOf F (by omega) hJ.1 hX ⟨by rw [hRm]; decide, by rw [hRm]; decide⟩ ⟨Nat.zero_le _, Nat.zero_le _⟩ hl.1 (Nat.le_of_ble_eq_true rfl) dX0_insert_51 (fun H locs hX => ?_)
          refine lv_istore_n (lv' := [(3, .int _), (0, .ref _), (1, .int _), (2, .int _), (4, .int _)]) F.1 F.2.1 dX0_insert_54 rfl hl (by decide) rfl (fun ls hl => ?_)
          refine nv_iinc (lv' := [(4, .int _), (3, .int _), (0, .ref _), (1, .int _), (2, .int _)]) F dX0_insert_55 hl (k := 4) rfl (by decide) rfl (fun ls hl => ?_)
          refine lv_goto (tgt := 26) F.1 F.2.1 dX0_insert_58 (by decide) ?_
          exact ih (r + 1) _ _ _ _ _ _ _ _ _ _ _ _ (by omega) (by omega) (by omega) hJ hX (lv_sub hl [2, 3, 4, 1, 0] rfl)
  have hJ := sJ_start (v := v) hI hj hT
  obtain ⟨hb, hlo, -, -⟩ := sI_in hI j
  obtain ⟨h6, -⟩ := id hI
  refine lv_aload_n F.1 F.2.1 dX0_insert_0 rfl (lv_at hl 0 rfl) ?_
  refine lv_iload_n F.1 F.2.1 dX0_insert_1 rfl (lv_at hl 1 rfl) ?_
  refine k_X0_bucketOf F (by omega) h6 hX ⟨by rw [hRm]; decide, by rw [hRm]; decide⟩ ⟨Nat.zero_le _, Nat.zero_le _⟩ hl.1 (Nat.le_of_ble_eq_true rfl) dX0_insert_2 (fun H locs hX => ?_)
  refine lv_istore_n (lv' := [(3, .int _), (0, .ref _), (1, .int _), (2, .int _)]) F.1 F.2.1 dX0_insert_5 rfl hl (by decide) rfl (fun ls hl => ?_)
  refine lv_aload_n F.1 F.2.1 dX0_insert_6 rfl (lv_at hl 1 rfl) ?_
  refine lv_iload_n F.1 F.2.1 dX0_insert_7 rfl (lv_at hl 0 rfl) ?_
  refine lv_iload_n F.1 F.2.1 dX0_insert_8 rfl (lv_at hl 2 rfl) ?_
  refine lv_iload_n F.1 F.2.1 dX0_insert_9 rfl (lv_at hl 3 rfl) ?_
  refine k_X0_append F (by omega) (by omega) hj hX ⟨by rw [hRm]; decide, by rw [hRm]; decide⟩ ⟨Nat.zero_le _, Nat.zero_le _⟩ hl.1 (Nat.le_of_ble_eq_true rfl) dX0_insert_10 (fun u H locs hp hX => ?_)
  obtain rfl := hp
  refine lv_aload_n F.1 F.2.1 dX0_insert_13 rfl (lv_at hl 1 rfl) ?_
  refine lv_dup F.1 F.2.1 dX0_insert_14 rfl ?_
  refine g_sd_kc F hX dX0_insert_15 ?_
  refine lv_iconst (v := nI 1) F.1 F.2.1 dX0_insert_18 (by decide +kernel) ?_
  refine nv_iadd F dX0_insert_19 ?_
  refine p_sd_kc F hX dX0_insert_20 (fun H locs hX => ?_)
  refine lv_iconst (v := nI 0) F.1 F.2.1 dX0_insert_23 (by decide +kernel) ?_
  refine lv_istore (lv' := [(4, .int _), (3, .int _), (0, .ref _), (1, .int _), (2, .int _)]) F.1 F.2.1 dX0_insert_24 hl (by decide) rfl (fun ls hl => ?_)
  exact loop 7 0 _ _ _ _ _ _ _ _ _ _ _ _ (by omega) (by omega) (Nat.zero_le _) hJ hX (lv_sub hl [2, 3, 4, 1, 0] rfl)
set_option maxRecDepth 100000 in
theorem k_X0_insert {p : Program} {l : Launch} {e : Env} {R : Room} {s : State} {m : MethodId} {args : Array Value} {below : List Frame} {meth : Method} {c : Code} {H : Heap} {locs : List Loc} {cells slots : Nat} {Q : State → Prop} {cc : ByteArray} {pc : Nat} {ls : Array Slot} {rest : List Value} {nL : Nat} {D : va_G} {A : Nat → Prop} {h : Nat → Nat} {cs : Nat → ClassId} {dp bc kc : Nat} {di de lo ke : Nat → Nat} {us : Nat → Bool} {va : Nat → Int32} {j : Nat} {v : Int32} {T : Nat → Bool} {V : Nat → Int32} (F : CallFix p m c cc nL s args lw_all RX0) (hI : sI (dp, bc, kc, di, us, de, lo, ke, va) T V) (hj : j < 256) (hT : T j = false) (hX : wX D (sdT cs) A s (sdW h cs (dp, bc, kc, di, us, de, lo, ke, va)) H locs) (hR : 3 ≤ R.frames ∧ 75 ≤ R.locals) (hcs : cells ≤ R.cells ∧ slots ≤ R.slots) (hls : ls.size = nL) (hrest : (rest.map fun v => v.category).sum ≤ 8) (hdg : decode cc pc = .ok (.invokevirtual 71, 3)) (kk : ∀ (u : SD) (H1 : Heap) (locs1 : List Loc), (sI u (va_up T j true) (va_up V j v)) → wX D (sdT cs) A s (sdW h cs u) H1 locs1 → W p l e R s m args below meth c H1 locs1 cells slots Q (F0 m (pc + 3) ls rest)) : W p l e R s m args below meth c H locs cells slots Q (F0 m pc ls (.int v :: .int (nI j) :: .ref (h 0) :: rest)) :=
  c_callv (C := RX0) (As := [.int (nI j), .int v]) (rest := rest) F (m_X0_insert l D h cs hI hj hT) q70 q72 qs2 q13 q73 (n := 2) rfl (by decide +kernel) ⟨hR.1, by have := hR.2; exact this⟩ rfl rfl hX (ci := 0) rfl rfl rfl rfl hls hrest hcs hdg (kk)
end
section
/-! walks of SplitDirectory: joinAt, delete -/
set_option maxHeartbeats 4000000 in
set_option maxRecDepth 100000 in
/-- joinAt(key) -/
theorem m_X0_joinAt (l : Launch) (D : va_G) (h : Nat → Nat) (cs : Nat → ClassId) {dp bc kc : Nat} {di de lo ke : Nat → Nat} {us : Nat → Bool} {va : Nat → Int32} {a : Nat} {T : Nat → Bool} {V : Nat → Int32} (hK : sK (dp, bc, kc, di, us, de, lo, ke, va) T V a) : cI l yX0_joinAt cX0_joinAt 6 (some .boolean) ({ frames := 1, cells := 0, slots := 0, locals := 23 } : Room) D (sdT cs) (sdW h cs (dp, bc, kc, di, us, de, lo, ke, va)) [.ref (h 0), .int (nI a)] (sdW h cs) (fun (r : Int32) (u : SD) => ∃ z : Bool, r = nI z.toNat ∧ ((z = true ∧ jnT dp bc kc di us de lo ke va a u) ∨ (z = false ∧ u = (dp, bc, kc, di, us, de, lo, ke, va) ∧ jnF dp di de lo a))) := by
  refine c_bool (post := fun (z : Bool) (u : SD) => ((z = true ∧ jnT dp bc kc di us de lo ke va a u) ∨ (z = false ∧ u = (dp, bc, kc, di, us, de, lo, ke, va) ∧ jnF dp di de lo a))) (own := RX0) (by decide) rfl (Nat.le_of_ble_eq_true rfl) ?_
  intro p e s m below meth c A Q ls R args hRm F hend hX hl
  have hl : lv_has ls 6 [(0, .ref (h 0)), (1, .int (nI a))] := hl
  obtain ⟨h6, hS, hC, hL, -, hbc, -, ha⟩ := id hK
  have hb := hS.lt a
  have hub := (hS.1 a).1
  have hdd := (hS.1 a).2
  have hlb := hL _ hub
  have hp6 := pw6 dp h6
  refine lv_aload_n F.1 F.2.1 dX0_joinAt_0 rfl (lv_at hl 0 rfl) ?_
  refine lv_iload_n F.1 F.2.1 dX0_joinAt_1 rfl (lv_at hl 1 rfl) ?_
  refine k_X0_bucketOf F (by omega) h6 hX ⟨by rw [hRm]; decide, by rw [hRm]; decide⟩ ⟨Nat.zero_le _, Nat.zero_le _⟩ hl.1 (Nat.le_of_ble_eq_true rfl) dX0_joinAt_2 (fun H locs hX => ?_)
  refine lv_istore_n (lv' := [(2, .int _), (0, .ref _), (1, .int _)]) F.1 F.2.1 dX0_joinAt_5 rfl hl (by decide) rfl (fun ls hl => ?_)
  refine lv_aload_n F.1 F.2.1 dX0_joinAt_6 rfl (lv_at hl 1 rfl) ?_
  refine g_sd_de F hX dX0_joinAt_7 ?_
  refine lv_iload_n F.1 F.2.1 dX0_joinAt_10 rfl (lv_at hl 0 rfl) ?_
  refine ld_sd_de F hX (by omega) dX0_joinAt_11 ?_
  refine lv_istore_n (lv' := [(3, .int _), (2, .int _), (0, .ref _), (1, .int _)]) F.1 F.2.1 dX0_joinAt_12 rfl hl (by decide) rfl (fun ls hl => ?_)
  refine lv_iload_n F.1 F.2.1 dX0_joinAt_13 rfl (lv_at hl 0 rfl) ?_
  refine nv_if_ne (tgt := 19) F dX0_joinAt_14 (by decide) (by omega) (fun c14 => ?_) (fun c14 => ?_)
  · obtain ⟨d, hd⟩ : ∃ d, de (be dp di a) = d + 1 := ⟨de (be dp di a) - 1, by omega⟩
    rw [hd] at hl
    have hx6 := xor_sib a ha d (by omega)
    refine lv_aload_n F.1 F.2.1 dX0_joinAt_19 rfl (lv_at hl 2 rfl) ?_
    refine g_sd_di F hX dX0_joinAt_20 ?_
    refine lv_iload_n F.1 F.2.1 dX0_joinAt_23 rfl (lv_at hl 3 rfl) ?_
    refine lv_iconst (v := nI 1) F.1 F.2.1 dX0_joinAt_24 (by decide +kernel) ?_
    refine lv_iload_n F.1 F.2.1 dX0_joinAt_25 rfl (lv_at hl 0 rfl) ?_
    refine lv_iconst (v := nI 1) F.1 F.2.1 dX0_joinAt_26 (by decide +kernel) ?_
    refine nv_isub F (by omega) dX0_joinAt_27 ?_
    rw [Nat.add_sub_cancel]
    refine nv_shl1 F (by omega) dX0_joinAt_28 ?_
    refine nv_ixor F dX0_joinAt_29 ?_
    refine lv_iconst (v := nI 1) F.1 F.2.1 dX0_joinAt_30 (by decide +kernel) ?_
    refine lv_aload_n F.1 F.2.1 dX0_joinAt_31 rfl (lv_at hl 2 rfl) ?_
    refine g_sd_dp F hX dX0_joinAt_32 ?_
    refine nv_shl1 F (by omega) dX0_joinAt_35 ?_
    refine lv_iconst (v := nI 1) F.1 F.2.1 dX0_joinAt_36 (by decide +kernel) ?_
    refine nv_isub F Nat.one_le_two_pow dX0_joinAt_37 ?_
    refine nv_mask F (by omega) (by omega) dX0_joinAt_38 ?_
    refine ld_sd_di F hX (md6 h6) dX0_joinAt_39 ?_
    have hbe : di ((a ^^^ 2 ^ d) % 2 ^ dp) = be dp di (a ^^^ 2 ^ d) := rfl
    rw [hbe]
    obtain ⟨s1, hs1⟩ : ∃ s1, s1 = a ^^^ 2 ^ d := ⟨_, rfl⟩
    rw [← hs1] at hx6 ⊢
    obtain ⟨hx1, hx2, hx3⟩ := hx6
    have hc := hS.lt s1
    have huc := (hS.1 s1).1
    have hcd := (hS.1 s1).2
    have hlc := hL _ huc
    refine lv_istore (lv' := [(4, .int _), (3, .int _), (2, .int _), (0, .ref _), (1, .int _)]) F.1 F.2.1 dX0_joinAt_40 hl (by decide) rfl (fun ls hl => ?_)
    refine lv_aload_n F.1 F.2.1 dX0_joinAt_42 rfl (lv_at hl 3 rfl) ?_
    refine g_sd_de F hX dX0_joinAt_43 ?_
    refine lv_iload F.1 F.2.1 dX0_joinAt_46 (lv_at hl 0 rfl) ?_
    refine ld_sd_de F hX (by omega) dX0_joinAt_48 ?_
    refine lv_iload_n F.1 F.2.1 dX0_joinAt_49 rfl (lv_at hl 1 rfl) ?_
    refine nv_icmp_ne (tgt := 71) F dX0_joinAt_50 (by decide) (by omega) (by omega) (fun c50 => ?_) (fun c50 => ?_)
    · have hno : jnF dp di de lo a := Or.inr ⟨d, s1, hd, hx1, hx2, Or.inl c50⟩
      refine lv_iconst (v := nI (false).toNat) F.1 F.2.1 dX0_joinAt_71 (by decide +kernel) ?_
      exact hend _ _ false _ _ _ (Or.inr ⟨rfl, rfl, hno⟩) hX dX0_joinAt_72
    · refine lv_aload_n F.1 F.2.1 dX0_joinAt_53 rfl (lv_at hl 3 rfl) ?_
      refine g_sd_lo F hX dX0_joinAt_54 ?_
      refine lv_iload_n F.1 F.2.1 dX0_joinAt_57 rfl (lv_at hl 2 rfl) ?_
      refine ld_sd_lo F hX (by omega) dX0_joinAt_58 ?_
      refine lv_aload_n F.1 F.2.1 dX0_joinAt_59 rfl (lv_at hl 3 rfl) ?_
      refine g_sd_lo F hX dX0_joinAt_60 ?_
      refine lv_iload F.1 F.2.1 dX0_joinAt_63 (lv_at hl 0 rfl) ?_
      refine ld_sd_lo F hX (by omega) dX0_joinAt_65 ?_
      refine nv_iadd F dX0_joinAt_66 ?_
      refine lv_iconst (v := nI 4) F.1 F.2.1 dX0_joinAt_67 (by decide +kernel) ?_
      refine nv_icmp_le (tgt := 73) F dX0_joinAt_68 (by decide) (by omega) (by omega) (fun c68 => ?_) (fun c68 => ?_)
      · refine lv_iconst (v := nI 0) F.1 F.2.1 dX0_joinAt_73 (by decide +kernel) ?_
        refine lv_istore (lv' := [(5, .int _), (4, .int _), (3, .int _), (2, .int _), (0, .ref _), (1, .int _)]) F.1 F.2.1 dX0_joinAt_74 hl (by decide) rfl (fun ls hl => ?_)
        have hne : be dp di s1 ≠ be dp di a := (sS_join hS hd hx1 hx2 c50).2
        have hbc1 : 1 ≤ bc := by
          rw [hbc]
          exact cN_pos hc huc
        have loop2 : ∀ (n i : Nat) (H : Heap) (locs : List Loc) (ls : Array Slot), 2 ^ dp + 1 ≤ i + n → i ≤ 2 ^ dp → wX D (sdT cs) A s (sdW h cs (dp, bc - 1, kc, jnD di (be dp di a) (be dp di s1) i, va_up us (be dp di s1) false, va_up de (be dp di a) d, va_up lo (be dp di a) (lo (be dp di a) + lo (be dp di s1)), va_cpy ke ke (be dp di s1 * 5) (be dp di a * 5 + lo (be dp di a)) (lo (be dp di s1)), va_cpy va va (be dp di s1 * 5) (be dp di a * 5 + lo (be dp di a)) (lo (be dp di s1)))) H locs → lv_has ls 6 [(0, .ref (h 0)), (2, .int (nI (be dp di a))), (4, .int (nI (be dp di s1))), (5, .int (nI i))] → W p l e R s m args below meth c H locs 0 0 Q (F0 m 154 ls []) := by
          intro n
          induction n with
          | zero => intro i H locs ls h1 h2; omega
          | succ n ih =>
            intro i H locs ls hn hi hX hl
            refine lv_iload F.1 F.2.1 dX0_joinAt_154 (lv_at hl 3 rfl) ?_
            refine lv_iconst (v := nI 1) F.1 F.2.1 dX0_joinAt_156 (by decide +kernel) ?_
            refine lv_aload_n F.1 F.2.1 dX0_joinAt_157 rfl (lv_at hl 0 rfl) ?_
            refine g_sd_dp F hX dX0_joinAt_158 ?_
            refine nv_shl1 F (by omega) dX0_joinAt_161 ?_
            refine nv_icmp_ge (tgt := 202) F dX0_joinAt_162 (by decide) (by omega) (by omega) (fun c162 => ?_) (fun c162 => ?_)
            · have hi2 : i = 2 ^ dp := by omega
              subst hi2
              refine lv_iconst (v := nI (true).toNat) F.1 F.2.1 dX0_joinAt_202 (by decide +kernel) ?_
              exact hend _ _ true _ _ _ (Or.inl ⟨rfl, d, s1, _, rfl, hd, hx1, hx2, c50, c68, jnD_end⟩) hX dX0_joinAt_203
            · have hdi := di_lt hS c162
              refine lv_aload_n F.1 F.2.1 dX0_joinAt_165 rfl (lv_at hl 0 rfl) ?_
              refine g_sd_di F hX dX0_joinAt_166 ?_
              refine lv_iload F.1 F.2.1 dX0_joinAt_169 (lv_at hl 3 rfl) ?_
              refine lv_aload_n F.1 F.2.1 dX0_joinAt_171 rfl (lv_at hl 0 rfl) ?_
              refine g_sd_di F hX dX0_joinAt_172 ?_
              refine lv_iload F.1 F.2.1 dX0_joinAt_175 (lv_at hl 3 rfl) ?_
              refine ld_sd_di F hX (by omega) dX0_joinAt_177 ?_
              rw [jnD_at]
              refine lv_iload F.1 F.2.1 dX0_joinAt_178 (lv_at hl 2 rfl) ?_
              refine nv_icmp_ne (tgt := 188) F dX0_joinAt_180 (by decide) (by omega) (by omega) (fun c180 => ?_) (fun c180 => ?_)
              · have hE := jnD_F (b := be dp di a) c180
                refine lv_aload_n F.1 F.2.1 dX0_joinAt_188 rfl (lv_at hl 0 rfl) ?_
                refine g_sd_di F hX dX0_joinAt_189 ?_
                refine lv_iload F.1 F.2.1 dX0_joinAt_192 (lv_at hl 3 rfl) ?_
                refine ld_sd_di F hX (by omega) dX0_joinAt_194 ?_
                try rw [jnD_at]
                refine st_sd_di F hX (by omega) (by omega) dX0_joinAt_195 (fun H locs hX => ?_)
                refine nv_iinc (lv' := [(5, .int _), (0, .ref _), (2, .int _), (4, .int _)]) F dX0_joinAt_196 hl (k := 3) rfl (by decide) rfl (fun ls hl => ?_)
                refine lv_goto (tgt := 154) F.1 F.2.1 dX0_joinAt_199 (by decide) ?_
                exact ih (i + 1) _ _ _ (by omega) (by omega) (by rw [hE]; exact hX) (lv_sub hl [1, 2, 3, 0] rfl)
              · have hE := jnD_T (b := be dp di a) c180
                refine lv_iload_n F.1 F.2.1 dX0_joinAt_183 rfl (lv_at hl 1 rfl) ?_
                refine nv_i2b F (by omega) dX0_joinAt_184 ?_
                refine lv_goto (tgt := 195) F.1 F.2.1 dX0_joinAt_185 (by decide) ?_
                try rw [jnD_at]
                refine st_sd_di F hX (by omega) (by omega) dX0_joinAt_195 (fun H locs hX => ?_)
                refine nv_iinc (lv' := [(5, .int _), (0, .ref _), (2, .int _), (4, .int _)]) F dX0_joinAt_196 hl (k := 3) rfl (by decide) rfl (fun ls hl => ?_)
                refine lv_goto (tgt := 154) F.1 F.2.1 dX0_joinAt_199 (by decide) ?_
                exact ih (i + 1) _ _ _ (by omega) (by omega) (by rw [hE]; exact hX) (lv_sub hl [1, 2, 3, 0] rfl)
        have loop1 : ∀ (n i : Nat) (H : Heap) (locs : List Loc) (ls : Array Slot), lo (be dp di s1) + 1 ≤ i + n → i ≤ lo (be dp di s1) → wX D (sdT cs) A s (sdW h cs (dp, bc, kc, di, us, de, va_up lo (be dp di a) (lo (be dp di a) + i), va_cpy ke ke (be dp di s1 * 5) (be dp di a * 5 + lo (be dp di a)) i, va_cpy va va (be dp di s1 * 5) (be dp di a * 5 + lo (be dp di a)) i)) H locs → lv_has ls 6 [(0, .ref (h 0)), (1, .int (nI a)), (2, .int (nI (be dp di a))), (3, .int (nI (d + 1))), (4, .int (nI (be dp di s1))), (5, .int (nI i))] → W p l e R s m args below meth c H locs 0 0 Q (F0 m 76 ls []) := by
          intro n
          induction n with
          | zero => intro i H locs ls h1 h2; omega
          | succ n ih =>
            intro i H locs ls hn hi hX hl
            refine lv_iload F.1 F.2.1 dX0_joinAt_76 (lv_at hl 5 rfl) ?_
            refine lv_aload_n F.1 F.2.1 dX0_joinAt_78 rfl (lv_at hl 0 rfl) ?_
            refine g_sd_lo F hX dX0_joinAt_79 ?_
            refine lv_iload F.1 F.2.1 dX0_joinAt_82 (lv_at hl 4 rfl) ?_
            refine ld_sd_lo F hX (by omega) dX0_joinAt_84 ?_
            rw [va_up_ne _ _ hne]
            refine nv_icmp_ge (tgt := 123) F dX0_joinAt_85 (by decide) (by omega) (by omega) (fun c85 => ?_) (fun c85 => ?_)
            · have hi2 : i = lo (be dp di s1) := by omega
              subst hi2
              refine lv_aload_n F.1 F.2.1 dX0_joinAt_123 rfl (lv_at hl 0 rfl) ?_
              refine g_sd_us F hX dX0_joinAt_124 ?_
              refine lv_iload F.1 F.2.1 dX0_joinAt_127 (lv_at hl 4 rfl) ?_
              refine lv_iconst (v := nI 0) F.1 F.2.1 dX0_joinAt_129 (by decide +kernel) ?_
              refine st_sd_us (v := false) F hX (by omega) dX0_joinAt_130 (fun H locs hX => ?_)
              refine lv_aload_n F.1 F.2.1 dX0_joinAt_131 rfl (lv_at hl 0 rfl) ?_
              refine lv_dup F.1 F.2.1 dX0_joinAt_132 rfl ?_
              refine g_sd_bc F hX dX0_joinAt_133 ?_
              refine lv_iconst (v := nI 1) F.1 F.2.1 dX0_joinAt_136 (by decide +kernel) ?_
              refine nv_isub F (by omega) dX0_joinAt_137 ?_
              refine p_sd_bc F hX dX0_joinAt_138 (fun H locs hX => ?_)
              refine lv_aload_n F.1 F.2.1 dX0_joinAt_141 rfl (lv_at hl 0 rfl) ?_
              refine g_sd_de F hX dX0_joinAt_142 ?_
              refine lv_iload_n F.1 F.2.1 dX0_joinAt_145 rfl (lv_at hl 2 rfl) ?_
              refine lv_iload_n F.1 F.2.1 dX0_joinAt_146 rfl (lv_at hl 3 rfl) ?_
              refine lv_iconst (v := nI 1) F.1 F.2.1 dX0_joinAt_147 (by decide +kernel) ?_
              refine nv_isub F (by omega) dX0_joinAt_148 ?_
              rw [Nat.add_sub_cancel]
              refine nv_i2b F (by omega) dX0_joinAt_149 ?_
              refine st_sd_de F hX (by omega) (by omega) dX0_joinAt_150 (fun H locs hX => ?_)
              refine lv_iconst (v := nI 0) F.1 F.2.1 dX0_joinAt_151 (by decide +kernel) ?_
              refine lv_istore (lv' := [(5, .int _), (0, .ref _), (1, .int _), (2, .int _), (3, .int _), (4, .int _)]) F.1 F.2.1 dX0_joinAt_152 hl (by decide) rfl (fun ls hl => ?_)
              exact loop2 (2 ^ dp + 1) 0 _ _ _ (by omega) (Nat.zero_le _) (by rw [jnD_0]; exact hX) (lv_sub hl [1, 3, 5, 0] rfl)
            · have hk1 := (hC.1 _ huc i c85).1
              have hout : be dp di s1 * 5 + i < be dp di a * 5 + lo (be dp di a) ∨ be dp di a * 5 + lo (be dp di a) + i ≤ be dp di s1 * 5 + i := by omega
              refine lv_aload_n F.1 F.2.1 dX0_joinAt_88 rfl (lv_at hl 0 rfl) ?_
              refine lv_iload_n F.1 F.2.1 dX0_joinAt_89 rfl (lv_at hl 2 rfl) ?_
              refine lv_aload_n F.1 F.2.1 dX0_joinAt_90 rfl (lv_at hl 0 rfl) ?_
              refine g_sd_ke F hX dX0_joinAt_91 ?_
              refine lv_iload F.1 F.2.1 dX0_joinAt_94 (lv_at hl 4 rfl) ?_
              refine lv_iconst (v := nI 5) F.1 F.2.1 dX0_joinAt_96 (by decide +kernel) ?_
              refine nv_imul F dX0_joinAt_97 ?_
              refine lv_iload F.1 F.2.1 dX0_joinAt_98 (lv_at hl 5 rfl) ?_
              refine nv_iadd F dX0_joinAt_100 ?_
              refine ld_sd_ke F hX (by omega) dX0_joinAt_101 ?_
              rw [pk_cpy_out hout]
              refine lv_aload_n F.1 F.2.1 dX0_joinAt_102 rfl (lv_at hl 0 rfl) ?_
              refine g_sd_va F hX dX0_joinAt_103 ?_
              refine lv_iload F.1 F.2.1 dX0_joinAt_106 (lv_at hl 4 rfl) ?_
              refine lv_iconst (v := nI 5) F.1 F.2.1 dX0_joinAt_108 (by decide +kernel) ?_
              refine nv_imul F dX0_joinAt_109 ?_
              refine lv_iload F.1 F.2.1 dX0_joinAt_110 (lv_at hl 5 rfl) ?_
              refine nv_iadd F dX0_joinAt_112 ?_
              refine ld_sd_va F hX (by omega) dX0_joinAt_113 ?_
              rw [pk_cpy_out hout]
              refine k_X0_append F (by omega) (by rw [va_up_self]; omega) hk1 hX ⟨by rw [hRm]; decide, by rw [hRm]; decide⟩ ⟨Nat.zero_le _, Nat.zero_le _⟩ hl.1 (Nat.le_of_ble_eq_true rfl) dX0_joinAt_114 (fun u H locs hp hX => ?_)
              obtain rfl := hp
              rw [va_up_self, bx_uu, ← Nat.add_assoc, cpy_step, cpy_step] at hX
              refine nv_iinc (lv' := [(5, .int _), (0, .ref _), (1, .int _), (2, .int _), (3, .int _), (4, .int _)]) F dX0_joinAt_117 hl (k := 5) rfl (by decide) rfl (fun ls hl => ?_)
              refine lv_goto (tgt := 76) F.1 F.2.1 dX0_joinAt_120 (by decide) ?_
              exact ih (i + 1) _ _ _ (by omega) (by omega) hX (lv_sub hl [1, 2, 3, 4, 5, 0] rfl)
        exact loop1 (lo (be dp di s1) + 1) 0 _ _ _ (by omega) (Nat.zero_le _) (by rw [cpy_0, cpy_0, Nat.add_zero, up_self]; exact hX) (lv_sub hl [4, 5, 3, 2, 1, 0] rfl)
      · have hno : jnF dp di de lo a := Or.inr ⟨d, s1, hd, hx1, hx2, Or.inr c68⟩
        refine lv_iconst (v := nI (false).toNat) F.1 F.2.1 dX0_joinAt_71 (by decide +kernel) ?_
        exact hend _ _ false _ _ _ (Or.inr ⟨rfl, rfl, hno⟩) hX dX0_joinAt_72
  · refine lv_iconst (v := nI (false).toNat) F.1 F.2.1 dX0_joinAt_17 (by decide +kernel) ?_
    exact hend _ _ false _ _ _ (Or.inr ⟨rfl, rfl, Or.inl c14⟩) hX dX0_joinAt_18
set_option maxRecDepth 100000 in
theorem k_X0_joinAt {p : Program} {l : Launch} {e : Env} {R : Room} {s : State} {m : MethodId} {args : Array Value} {below : List Frame} {meth : Method} {c : Code} {H : Heap} {locs : List Loc} {cells slots : Nat} {Q : State → Prop} {cc : ByteArray} {pc : Nat} {ls : Array Slot} {rest : List Value} {nL : Nat} {D : va_G} {A : Nat → Prop} {h : Nat → Nat} {cs : Nat → ClassId} {dp bc kc : Nat} {di de lo ke : Nat → Nat} {us : Nat → Bool} {va : Nat → Int32} {a : Nat} {T : Nat → Bool} {V : Nat → Int32} (F : CallFix p m c cc nL s args lw_all RX0) (hK : sK (dp, bc, kc, di, us, de, lo, ke, va) T V a) (hX : wX D (sdT cs) A s (sdW h cs (dp, bc, kc, di, us, de, lo, ke, va)) H locs) (hR : 2 ≤ R.frames ∧ 48 ≤ R.locals) (hcs : cells ≤ R.cells ∧ slots ≤ R.slots) (hls : ls.size = nL) (hrest : (rest.map fun v => v.category).sum ≤ 8) (hdg : decode cc pc = .ok (.invokevirtual 57, 3)) (kk : ∀ (z : Bool) (u : SD) (H1 : Heap) (locs1 : List Loc), (((z = true ∧ jnT dp bc kc di us de lo ke va a u) ∨ (z = false ∧ u = (dp, bc, kc, di, us, de, lo, ke, va) ∧ jnF dp di de lo a))) → wX D (sdT cs) A s (sdW h cs u) H1 locs1 → W p l e R s m args below meth c H1 locs1 cells slots Q (F0 m (pc + 3) ls (.int (nI z.toNat) :: rest))) : W p l e R s m args below meth c H locs cells slots Q (F0 m pc ls (.int (nI a) :: .ref (h 0) :: rest)) :=
  c_calli (C := RX0) (As := [.int (nI a)]) (rest := rest) F (m_X0_joinAt l D h cs hK) q98 q100 qs7 q13 q101 (n := 1) rfl (by decide +kernel) ⟨hR.1, by have := hR.2; exact this⟩ rfl rfl hX (ci := 0) rfl rfl rfl rfl hls hrest hcs hdg (fun r u H1 locs1 hp hX1 => by obtain ⟨z, rfl, hp⟩ := hp; exact kk z u H1 locs1 hp hX1)
set_option maxHeartbeats 4000000 in
set_option maxRecDepth 100000 in
/-- delete(b, place, key) -/
theorem m_X0_delete (l : Launch) (D : va_G) (h : Nat → Nat) (cs : Nat → ClassId) {dp bc kc : Nat} {di de lo ke : Nat → Nat} {us : Nat → Bool} {va : Nat → Int32} {p1 k : Nat} {T : Nat → Bool} {V : Nat → Int32} (hI : sI (dp, bc, kc, di, us, de, lo, ke, va) T V) (hk : k < 256) (hp : p1 < lo (be dp di k)) (hpk : ke (be dp di k * 5 + p1) = k) : cV l yX0_delete cX0_delete 6 ({ frames := 2, cells := 0, slots := 0, locals := 48 } : Room) D (sdT cs) (sdW h cs (dp, bc, kc, di, us, de, lo, ke, va)) [.ref (h 0), .int (nI (be dp di k)), .int (nI p1), .int (nI k)] (sdW h cs) (fun (u : SD) => sI u (va_up T k false) V) := by
  refine c_void (own := RX0) (by decide) rfl (Nat.le_of_ble_eq_true rfl) ?_
  intro p e s m below meth c A Q ls R args hRm F hend hX hl
  have hl : lv_has ls 6 [(0, .ref (h 0)), (1, .int (nI (be dp di k))), (2, .int (nI p1)), (3, .int (nI k))] := hl
  have loop2 : ∀ (n : Nat) (dp bc kc : Nat) (di : Nat → Nat) (us : Nat → Bool) (de lo ke : Nat → Nat) (va : Nat → Int32) (H : Heap) (locs : List Loc) (ls : Array Slot), dp + 1 ≤ n → sI (dp, bc, kc, di, us, de, lo, ke, va) (va_up T k false) V → wX D (sdT cs) A s (sdW h cs (dp, bc, kc, di, us, de, lo, ke, va)) H locs → lv_has ls 6 [(0, .ref (h 0))] → W p l e R s m args below meth c H locs 0 0 Q (F0 m 102 ls []) := by
    intro n
    induction n with
    | zero => intro dp bc kc di us de lo ke va H locs ls h1; omega
    | succ n ih =>
      intro dp bc kc di us de lo ke va H locs ls hn hI hX hl
      have hmx := mxU_le (sI_de hI) 64
      obtain ⟨h6, -⟩ := id hI
      refine lv_aload_n F.1 F.2.1 dX0_delete_102 rfl (lv_at hl 0 rfl) ?_
      refine g_sd_dp F hX dX0_delete_103 ?_
      refine nv_if_le (tgt := 133) F dX0_delete_106 (by decide) (by omega) (fun c106 => ?_) (fun c106 => ?_)
      · exact hend _ _ _ _ _ hI hX dX0_delete_133
      · refine lv_aload_n F.1 F.2.1 dX0_delete_109 rfl (lv_at hl 0 rfl) ?_
        refine k_X0_deepest F (sI_de hI) hX ⟨by rw [hRm]; decide, by rw [hRm]; decide⟩ ⟨Nat.zero_le _, Nat.zero_le _⟩ hl.1 (Nat.le_of_ble_eq_true rfl) dX0_delete_110 (fun H locs hX => ?_)
        refine lv_aload_n F.1 F.2.1 dX0_delete_113 rfl (lv_at hl 0 rfl) ?_
        refine g_sd_dp F hX dX0_delete_114 ?_
        refine nv_icmp_ge (tgt := 133) F dX0_delete_117 (by decide) (by omega) (by omega) (fun c117 => ?_) (fun c117 => ?_)
        · exact hend _ _ _ _ _ hI hX dX0_delete_133
        · obtain ⟨q1, rfl⟩ : ∃ q1, dp = q1 + 1 := ⟨dp - 1, by omega⟩
          refine lv_aload_n F.1 F.2.1 dX0_delete_120 rfl (lv_at hl 0 rfl) ?_
          refine lv_dup F.1 F.2.1 dX0_delete_121 rfl ?_
          refine g_sd_dp F hX dX0_delete_122 ?_
          refine lv_iconst (v := nI 1) F.1 F.2.1 dX0_delete_125 (by decide +kernel) ?_
          refine nv_isub F (by omega) dX0_delete_126 ?_
          refine p_sd_dp F hX dX0_delete_127 (fun H locs hX => ?_)
          refine lv_goto (tgt := 102) F.1 F.2.1 dX0_delete_130 (by decide) ?_
          exact ih q1 _ _ _ _ _ _ _ _ _ _ _ (by omega) (sI_halve hI c117) hX (lv_sub hl [0] rfl)
  have loop1 : ∀ (n r : Nat) (z : Bool) (dp bc kc : Nat) (di : Nat → Nat) (us : Nat → Bool) (de lo ke : Nat → Nat) (va : Nat → Int32) (H : Heap) (locs : List Loc) (ls : Array Slot), 7 ≤ r + n → r ≤ 6 → ((z = true ∧ sK (dp, bc, kc, di, us, de, lo, ke, va) (va_up T k false) V k ∧ de (be dp di k) + r ≤ 6) ∨ (z = false ∧ sI (dp, bc, kc, di, us, de, lo, ke, va) (va_up T k false) V)) → wX D (sdT cs) A s (sdW h cs (dp, bc, kc, di, us, de, lo, ke, va)) H locs → lv_has ls 6 [(0, .ref (h 0)), (3, .int (nI k)), (4, .int (nI z.toNat)), (5, .int (nI r))] → W p l e R s m args below meth c H locs 0 0 Q (F0 m 77 ls []) := by
    intro n
    induction n with
    | zero => intro r z dp bc kc di us de lo ke va H locs ls h1 h2; omega
    | succ n ih =>
      intro r z dp bc kc di us de lo ke va H locs ls hn hr hz hX hl
      refine lv_iload F.1 F.2.1 dX0_delete_77 (lv_at hl 3 rfl) ?_
      refine lv_bipush (v := nI 6) F.1 F.2.1 dX0_delete_79 (by decide +kernel) ?_
      refine nv_icmp_ge (tgt := 102) F dX0_delete_81 (by decide) (by omega) (by omega) (fun c81 => ?_) (fun c81 => ?_)
      · have hfin : sI (dp, bc, kc, di, us, de, lo, ke, va) (va_up T k false) V := by
          rcases hz with ⟨-, q1, q2⟩ | ⟨-, q1⟩
          · exact sK_zero q1 (by omega)
          · exact q1
        exact loop2 (dp + 1) _ _ _ _ _ _ _ _ _ _ _ _ (Nat.le_refl _) hfin hX (lv_sub hl [0] rfl)
      · refine lv_iload F.1 F.2.1 dX0_delete_84 (lv_at hl 2 rfl) ?_
        refine nv_ifB_eq (tgt := 102) F dX0_delete_86 (by decide) (fun c86 => ?_) (fun c86 => ?_)
        · have hfin : sI (dp, bc, kc, di, us, de, lo, ke, va) (va_up T k false) V := by
            rcases hz with ⟨q0, q1, q2⟩ | ⟨-, q1⟩
            · rw [q0] at c86
              cases c86
            · exact q1
          exact loop2 (dp + 1) _ _ _ _ _ _ _ _ _ _ _ _ (Nat.le_refl _) hfin hX (lv_sub hl [0] rfl)
        · obtain ⟨hK, hK6⟩ : sK (dp, bc, kc, di, us, de, lo, ke, va) (va_up T k false) V k ∧ de (be dp di k) + r ≤ 6 := by
            rcases hz with ⟨q0, q1, q2⟩ | ⟨q0, q1⟩
            · exact ⟨q1, q2⟩
            · rw [q0] at c86
              cases c86
          refine lv_aload_n F.1 F.2.1 dX0_delete_89 rfl (lv_at hl 0 rfl) ?_
          refine lv_iload_n F.1 F.2.1 dX0_delete_90 rfl (lv_at hl 1 rfl) ?_
          refine k_X0_joinAt F hK hX ⟨by rw [hRm]; decide, by rw [hRm]; decide⟩ ⟨Nat.zero_le _, Nat.zero_le _⟩ hl.1 (Nat.le_of_ble_eq_true rfl) dX0_delete_91 (fun z u H locs hp hX => ?_)
          rcases hp with ⟨rfl, hR⟩ | ⟨rfl, rfl, hR⟩
          · obtain ⟨hK2, dp1, bc1, kc1, di1, us1, de1, lo1, ke1, va1, rfl, hde1⟩ := sK_join hK hR
            refine lv_istore (lv' := [(4, .int _), (0, .ref _), (3, .int _), (5, .int _)]) F.1 F.2.1 dX0_delete_94 hl (by decide) rfl (fun ls hl => ?_)
            refine nv_iinc (lv' := [(5, .int _), (4, .int _), (0, .ref _), (3, .int _)]) F dX0_delete_96 hl (k := 3) rfl (by decide) rfl (fun ls hl => ?_)
            refine lv_goto (tgt := 77) F.1 F.2.1 dX0_delete_99 (by decide) ?_
            exact ih (r + 1) true _ _ _ _ _ _ _ _ _ _ _ _ (by omega) (by omega) (Or.inl ⟨rfl, hK2, by omega⟩) hX (lv_sub hl [2, 3, 1, 0] rfl)
          · refine lv_istore (lv' := [(4, .int _), (0, .ref _), (3, .int _), (5, .int _)]) F.1 F.2.1 dX0_delete_94 hl (by decide) rfl (fun ls hl => ?_)
            refine nv_iinc (lv' := [(5, .int _), (4, .int _), (0, .ref _), (3, .int _)]) F dX0_delete_96 hl (k := 3) rfl (by decide) rfl (fun ls hl => ?_)
            refine lv_goto (tgt := 77) F.1 F.2.1 dX0_delete_99 (by decide) ?_
            exact ih (r + 1) false _ _ _ _ _ _ _ _ _ _ _ _ (by omega) (by omega) (Or.inr ⟨rfl, sK_stop hK hR⟩) hX (lv_sub hl [2, 3, 1, 0] rfl)
  obtain ⟨hK0, hkc⟩ := sK_start hI hk hp hpk
  obtain ⟨hb, hlo, hde6, hke⟩ := sI_in hI k
  have hk9 := hke (lo (be dp di k) - 1) (by omega)
  refine lv_aload_n F.1 F.2.1 dX0_delete_0 rfl (lv_at hl 0 rfl) ?_
  refine g_sd_lo F hX dX0_delete_1 ?_
  refine lv_iload_n F.1 F.2.1 dX0_delete_4 rfl (lv_at hl 1 rfl) ?_
  refine lv_dup2_11 F.1 F.2.1 dX0_delete_5 rfl rfl ?_
  refine ld_sd_lo F hX (by omega) dX0_delete_6 ?_
  refine lv_iconst (v := nI 1) F.1 F.2.1 dX0_delete_7 (by decide +kernel) ?_
  refine nv_isub F (by omega) dX0_delete_8 ?_
  refine nv_i2b F (by omega) dX0_delete_9 ?_
  refine st_sd_lo F hX (by omega) (by omega) dX0_delete_10 (fun H locs hX => ?_)
  refine lv_aload_n F.1 F.2.1 dX0_delete_11 rfl (lv_at hl 0 rfl) ?_
  refine g_sd_ke F hX dX0_delete_12 ?_
  refine lv_iload_n F.1 F.2.1 dX0_delete_15 rfl (lv_at hl 1 rfl) ?_
  refine lv_iconst (v := nI 5) F.1 F.2.1 dX0_delete_16 (by decide +kernel) ?_
  refine nv_imul F dX0_delete_17 ?_
  refine lv_iload_n F.1 F.2.1 dX0_delete_18 rfl (lv_at hl 2 rfl) ?_
  refine nv_iadd F dX0_delete_19 ?_
  refine lv_aload_n F.1 F.2.1 dX0_delete_20 rfl (lv_at hl 0 rfl) ?_
  refine g_sd_ke F hX dX0_delete_21 ?_
  refine lv_iload_n F.1 F.2.1 dX0_delete_24 rfl (lv_at hl 1 rfl) ?_
  refine lv_iconst (v := nI 5) F.1 F.2.1 dX0_delete_25 (by decide +kernel) ?_
  refine nv_imul F dX0_delete_26 ?_
  refine lv_aload_n F.1 F.2.1 dX0_delete_27 rfl (lv_at hl 0 rfl) ?_
  refine g_sd_lo F hX dX0_delete_28 ?_
  refine lv_iload_n F.1 F.2.1 dX0_delete_31 rfl (lv_at hl 1 rfl) ?_
  refine ld_sd_lo F hX (by omega) dX0_delete_32 ?_
  rw [va_up_self]
  refine nv_iadd F dX0_delete_33 ?_
  refine ld_sd_ke F hX (by omega) dX0_delete_34 ?_
  refine st_sd_ke F hX (by omega) (by omega) dX0_delete_35 (fun H locs hX => ?_)
  refine lv_aload_n F.1 F.2.1 dX0_delete_36 rfl (lv_at hl 0 rfl) ?_
  refine g_sd_va F hX dX0_delete_37 ?_
  refine lv_iload_n F.1 F.2.1 dX0_delete_40 rfl (lv_at hl 1 rfl) ?_
  refine lv_iconst (v := nI 5) F.1 F.2.1 dX0_delete_41 (by decide +kernel) ?_
  refine nv_imul F dX0_delete_42 ?_
  refine lv_iload_n F.1 F.2.1 dX0_delete_43 rfl (lv_at hl 2 rfl) ?_
  refine nv_iadd F dX0_delete_44 ?_
  refine lv_aload_n F.1 F.2.1 dX0_delete_45 rfl (lv_at hl 0 rfl) ?_
  refine g_sd_va F hX dX0_delete_46 ?_
  refine lv_iload_n F.1 F.2.1 dX0_delete_49 rfl (lv_at hl 1 rfl) ?_
  refine lv_iconst (v := nI 5) F.1 F.2.1 dX0_delete_50 (by decide +kernel) ?_
  refine nv_imul F dX0_delete_51 ?_
  refine lv_aload_n F.1 F.2.1 dX0_delete_52 rfl (lv_at hl 0 rfl) ?_
  refine g_sd_lo F hX dX0_delete_53 ?_
  refine lv_iload_n F.1 F.2.1 dX0_delete_56 rfl (lv_at hl 1 rfl) ?_
  refine ld_sd_lo F hX (by omega) dX0_delete_57 ?_
  rw [va_up_self]
  refine nv_iadd F dX0_delete_58 ?_
  refine ld_sd_va F hX (by omega) dX0_delete_59 ?_
  refine st_sd_va F hX (by omega) dX0_delete_60 (fun H locs hX => ?_)
  refine lv_aload_n F.1 F.2.1 dX0_delete_61 rfl (lv_at hl 0 rfl) ?_
  refine lv_dup F.1 F.2.1 dX0_delete_62 rfl ?_
  refine g_sd_kc F hX dX0_delete_63 ?_
  refine lv_iconst (v := nI 1) F.1 F.2.1 dX0_delete_66 (by decide +kernel) ?_
  refine nv_isub F (by omega) dX0_delete_67 ?_
  refine p_sd_kc F hX dX0_delete_68 (fun H locs hX => ?_)
  refine lv_iconst (v := nI (true).toNat) F.1 F.2.1 dX0_delete_71 (by decide +kernel) ?_
  refine lv_istore (lv' := [(4, .int _), (0, .ref _), (1, .int _), (2, .int _), (3, .int _)]) F.1 F.2.1 dX0_delete_72 hl (by decide) rfl (fun ls hl => ?_)
  refine lv_iconst (v := nI 0) F.1 F.2.1 dX0_delete_74 (by decide +kernel) ?_
  refine lv_istore (lv' := [(5, .int _), (4, .int _), (0, .ref _), (1, .int _), (2, .int _), (3, .int _)]) F.1 F.2.1 dX0_delete_75 hl (by decide) rfl (fun ls hl => ?_)
  exact loop1 7 0 true _ _ _ _ _ _ _ _ _ _ _ _ (by omega) (by omega) (Or.inl ⟨rfl, hK0, by omega⟩) hX (lv_sub hl [2, 5, 1, 0] rfl)
set_option maxRecDepth 100000 in
theorem k_X0_delete {p : Program} {l : Launch} {e : Env} {R : Room} {s : State} {m : MethodId} {args : Array Value} {below : List Frame} {meth : Method} {c : Code} {H : Heap} {locs : List Loc} {cells slots : Nat} {Q : State → Prop} {cc : ByteArray} {pc : Nat} {ls : Array Slot} {rest : List Value} {nL : Nat} {D : va_G} {A : Nat → Prop} {h : Nat → Nat} {cs : Nat → ClassId} {dp bc kc : Nat} {di de lo ke : Nat → Nat} {us : Nat → Bool} {va : Nat → Int32} {p1 k : Nat} {T : Nat → Bool} {V : Nat → Int32} (F : CallFix p m c cc nL s args lw_all RX0) (hI : sI (dp, bc, kc, di, us, de, lo, ke, va) T V) (hk : k < 256) (hp : p1 < lo (be dp di k)) (hpk : ke (be dp di k * 5 + p1) = k) (hX : wX D (sdT cs) A s (sdW h cs (dp, bc, kc, di, us, de, lo, ke, va)) H locs) (hR : 3 ≤ R.frames ∧ 73 ≤ R.locals) (hcs : cells ≤ R.cells ∧ slots ≤ R.slots) (hls : ls.size = nL) (hrest : (rest.map fun v => v.category).sum ≤ 8) (hdg : decode cc pc = .ok (.invokevirtual 77, 3)) (kk : ∀ (u : SD) (H1 : Heap) (locs1 : List Loc), (sI u (va_up T k false) V) → wX D (sdT cs) A s (sdW h cs u) H1 locs1 → W p l e R s m args below meth c H1 locs1 cells slots Q (F0 m (pc + 3) ls rest)) : W p l e R s m args below meth c H locs cells slots Q (F0 m pc ls (.int (nI k) :: .int (nI p1) :: .int (nI (be dp di k)) :: .ref (h 0) :: rest)) :=
  c_callv (C := RX0) (As := [.int (nI (be dp di k)), .int (nI p1), .int (nI k)]) (rest := rest) F (m_X0_delete l D h cs hI hk hp hpk) q94 q96 qs6 q13 q97 (n := 3) rfl (by decide +kernel) ⟨hR.1, by have := hR.2; exact this⟩ rfl rfl hX (ci := 0) rfl rfl rfl rfl hls hrest hcs hdg (kk)
end
section
/-! walks of SplitDirectory: has, get, put, remove, depthOf, load, inBucket, together, next, growth -/
theorem fd_T {dp bc kc : Nat} {di : Nat → Nat} {us : Nat → Bool} {de lo ke : Nat → Nat} {va : Nat → Int32} {T : Nat → Bool} {V : Nat → Int32} {j : Nat} {r : Int32} (h : sI (dp, bc, kc, di, us, de, lo, ke, va) T V) (hj : j < 256) (hr : fdR lo ke (be dp di j) j r) : (∃ i, i < lo (be dp di j) ∧ ke (be dp di j * 5 + i) = j ∧ r = nI i ∧ T j = true ∧ va (be dp di j * 5 + i) = V j) ∨ (T j = false ∧ r = -1) := by
  obtain ⟨h6, hS, ⟨c1, c2, c3⟩, -⟩ := h
  rcases hr with ⟨i, h1, h2, h3⟩ | ⟨h1, h2⟩
  · obtain ⟨-, g2, -, g4⟩ := c1 _ (hS.1 j).1 i h1
    rw [h2] at g2 g4
    exact Or.inl ⟨i, h1, h2, h3, g2, g4⟩
  · refine Or.inr ⟨?_, h2⟩
    cases hT : T j with
    | false => rfl
    | true =>
      obtain ⟨i, g1, g2⟩ := c3 j hj hT
      exact absurd g2 (h1 i g1)
theorem up_id {α : Type} {f : Nat → α} {k : Nat} {v : α} (h : f k = v) : va_up f k v = f := by
  rw [← h]
  exact up_self f k
theorem be_eq {dp bc kc : Nat} {di : Nat → Nat} {us : Nat → Bool} {de lo ke : Nat → Nat} {va : Nat → Int32} {T : Nat → Bool} {V : Nat → Int32} (h : sI (dp, bc, kc, di, us, de, lo, ke, va) T V) (a b : Nat) : be dp di a = be dp di b ↔ b % 2 ^ de (be dp di a) = a % 2 ^ de (be dp di a) := by
  obtain ⟨h6, hS, -⟩ := h
  rw [hS.2.1 a b]
  exact ⟨fun q => q.symm, fun q => q.symm⟩
theorem sI_ct {dp bc kc : Nat} {di : Nat → Nat} {us : Nat → Bool} {de lo ke : Nat → Nat} {va : Nat → Int32} {T : Nat → Bool} {V : Nat → Int32} (h : sI (dp, bc, kc, di, us, de, lo, ke, va) T V) (k : Nat) : lo (be dp di k) = ct T k (de (be dp di k)) := by
  obtain ⟨h6, hS, hC, -⟩ := h
  exact lo_ct hS hC k
set_option maxHeartbeats 4000000 in
set_option maxRecDepth 100000 in
/-- has(k) -/
theorem m_X0_has (l : Launch) (D : va_G) (h : Nat → Nat) (cs : Nat → ClassId) {dp bc kc : Nat} {di de lo ke : Nat → Nat} {us : Nat → Bool} {va : Nat → Int32} {k : Int32} {T : Nat → Bool} {V : Nat → Int32} (hI : sI (dp, bc, kc, di, us, de, lo, ke, va) T V) : cI l yX0_has cX0_has 3 (some .boolean) ({ frames := 1, cells := 0, slots := 0, locals := 23 } : Room) D (sdT cs) (sdW h cs (dp, bc, kc, di, us, de, lo, ke, va)) [.ref (h 0), .int k] (sdW h cs) (fun (r : Int32) (u : SD) => ∃ z : Bool, r = nI z.toNat ∧ u = (dp, bc, kc, di, us, de, lo, ke, va) ∧ z = hasB T k) := by
  refine c_bool (post := fun (z : Bool) (u : SD) => u = (dp, bc, kc, di, us, de, lo, ke, va) ∧ z = hasB T k) (own := RX0) (by decide) rfl (Nat.le_of_ble_eq_true rfl) ?_
  intro p e s m below meth c A Q ls R args hRm F hend hX hl
  have hl : lv_has ls 3 [(0, .ref (h 0)), (1, .int k)] := hl
  refine lv_iload_n F.1 F.2.1 dX0_has_0 rfl (lv_at hl 1 rfl) ?_
  refine k_X0_isKey F  hX ⟨by rw [hRm]; decide, by rw [hRm]; decide⟩ ⟨Nat.zero_le _, Nat.zero_le _⟩ hl.1 (Nat.le_of_ble_eq_true rfl) dX0_has_1 (fun H locs hX => ?_)
  refine nv_ifB_ne (tgt := 9) F dX0_has_4 (by decide) (fun c4 => ?_) (fun c4 => ?_)
  · obtain ⟨j, hj, rfl⟩ := kB_of c4
    refine lv_aload_n F.1 F.2.1 dX0_has_9 rfl (lv_at hl 0 rfl) ?_
    refine lv_iload_n F.1 F.2.1 dX0_has_10 rfl (lv_at hl 1 rfl) ?_
    refine k_X0_bucketOf F (by omega) hI.1 hX ⟨by rw [hRm]; decide, by rw [hRm]; decide⟩ ⟨Nat.zero_le _, Nat.zero_le _⟩ hl.1 (Nat.le_of_ble_eq_true rfl) dX0_has_11 (fun H locs hX => ?_)
    obtain ⟨hb, hlo, hde6, hke⟩ := sI_in hI j
    refine lv_istore_n (lv' := [(2, .int _), (0, .ref _), (1, .int _)]) F.1 F.2.1 dX0_has_14 rfl hl (by decide) rfl (fun ls hl => ?_)
    refine lv_aload_n F.1 F.2.1 dX0_has_15 rfl (lv_at hl 1 rfl) ?_
    refine lv_iload_n F.1 F.2.1 dX0_has_16 rfl (lv_at hl 0 rfl) ?_
    refine lv_iload_n F.1 F.2.1 dX0_has_17 rfl (lv_at hl 2 rfl) ?_
    refine k_X0_find F (by omega) (by omega) (fun i hi => Nat.lt_trans (hke i hi) (by omega)) (by omega) hX ⟨by rw [hRm]; decide, by rw [hRm]; decide⟩ ⟨Nat.zero_le _, Nat.zero_le _⟩ hl.1 (Nat.le_of_ble_eq_true rfl) dX0_has_18 (fun r u H locs hp hX => ?_)
    obtain ⟨rfl, hfd⟩ := hp
    have hfd := fd_T hI hj hfd
    rcases hfd with ⟨i, hi, hki, rfl, hT, hva⟩ | ⟨hT, rfl⟩
    · refine nv_if_lt (tgt := 28) F dX0_has_21 (by decide) (by omega) ?_
      refine lv_iconst (v := nI (true).toNat) F.1 F.2.1 dX0_has_24 (by decide +kernel) ?_
      refine lv_goto (tgt := 29) F.1 F.2.1 dX0_has_25 (by decide) ?_
      exact hend _ _ true _ _ _ ⟨rfl, by rw [hasB_nI hj, hT]⟩ hX dX0_has_29
    · refine lv_if_lt (tgt := 28) F.1 F.2.1 dX0_has_21 (by decide) (fun c21 => ?_) (fun c21 => ?_)
      · refine lv_iconst (v := nI (false).toNat) F.1 F.2.1 dX0_has_28 (by decide +kernel) ?_
        exact hend _ _ false _ _ _ ⟨rfl, by rw [hasB_nI hj, hT]⟩ hX dX0_has_29
      · exact absurd (by decide) c21
  · refine lv_iconst (v := nI (false).toNat) F.1 F.2.1 dX0_has_7 (by decide +kernel) ?_
    exact hend _ _ false _ _ _ ⟨rfl, (hasB_no c4).symm⟩ hX dX0_has_8
set_option maxRecDepth 100000 in
theorem k_X0_has {p : Program} {l : Launch} {e : Env} {R : Room} {s : State} {m : MethodId} {args : Array Value} {below : List Frame} {meth : Method} {c : Code} {H : Heap} {locs : List Loc} {cells slots : Nat} {Q : State → Prop} {cc : ByteArray} {pc : Nat} {ls : Array Slot} {rest : List Value} {nL : Nat} {D : va_G} {A : Nat → Prop} {h : Nat → Nat} {cs : Nat → ClassId} {dp bc kc : Nat} {di de lo ke : Nat → Nat} {us : Nat → Bool} {va : Nat → Int32} {k : Int32} {T : Nat → Bool} {V : Nat → Int32} (F : CallFix p m c cc nL s args lw_all RX0) (hI : sI (dp, bc, kc, di, us, de, lo, ke, va) T V) (hX : wX D (sdT cs) A s (sdW h cs (dp, bc, kc, di, us, de, lo, ke, va)) H locs) (hR : 2 ≤ R.frames ∧ 45 ≤ R.locals) (hcs : cells ≤ R.cells ∧ slots ≤ R.slots) (hls : ls.size = nL) (hrest : (rest.map fun v => v.category).sum ≤ 8) (hdg : decode cc pc = .ok (.invokevirtual 74, 3)) (kk : ∀ (H1 : Heap) (locs1 : List Loc), wX D (sdT cs) A s (sdW h cs (dp, bc, kc, di, us, de, lo, ke, va)) H1 locs1 → W p l e R s m args below meth c H1 locs1 cells slots Q (F0 m (pc + 3) ls (.int ((nI (hasB T k).toNat)) :: rest))) : W p l e R s m args below meth c H locs cells slots Q (F0 m pc ls (.int k :: .ref (h 0) :: rest)) :=
  c_calli (C := RX0) (As := [.int k]) (rest := rest) F (m_X0_has l D h cs hI) q90 q91 q92 q13 q93 (n := 1) rfl (by decide +kernel) ⟨hR.1, by have := hR.2; exact this⟩ rfl rfl hX (ci := 0) rfl rfl rfl rfl hls hrest hcs hdg (fun r u H1 locs1 hp hX1 => by obtain ⟨z, rfl, rfl, rfl⟩ := hp; exact kk H1 locs1 hX1)
set_option maxHeartbeats 4000000 in
set_option maxRecDepth 100000 in
/-- get(k) -/
theorem m_X0_get (l : Launch) (D : va_G) (h : Nat → Nat) (cs : Nat → ClassId) {dp bc kc : Nat} {di de lo ke : Nat → Nat} {us : Nat → Bool} {va : Nat → Int32} {k : Int32} {T : Nat → Bool} {V : Nat → Int32} (hI : sI (dp, bc, kc, di, us, de, lo, ke, va) T V) : cI l yX0_get cX0_get 4 (some .int) ({ frames := 2, cells := 0, slots := 0, locals := 45 } : Room) D (sdT cs) (sdW h cs (dp, bc, kc, di, us, de, lo, ke, va)) [.ref (h 0), .int k] (sdW h cs) (fun (r : Int32) (u : SD) => u = (dp, bc, kc, di, us, de, lo, ke, va) ∧ r = getV T V k) := by
  refine c_int (own := RX0) (by decide) rfl (Nat.le_of_ble_eq_true rfl) ?_
  intro p e s m below meth c A Q ls R args hRm F hend hX hl
  have hl : lv_has ls 4 [(0, .ref (h 0)), (1, .int k)] := hl
  refine lv_aload_n F.1 F.2.1 dX0_get_0 rfl (lv_at hl 0 rfl) ?_
  refine lv_iload_n F.1 F.2.1 dX0_get_1 rfl (lv_at hl 1 rfl) ?_
  refine k_X0_has F hI hX ⟨by rw [hRm]; decide, by rw [hRm]; decide⟩ ⟨Nat.zero_le _, Nat.zero_le _⟩ hl.1 (Nat.le_of_ble_eq_true rfl) dX0_get_2 (fun H locs hX => ?_)
  refine nv_ifB_ne (tgt := 10) F dX0_get_5 (by decide) (fun c5 => ?_) (fun c5 => ?_)
  · obtain ⟨j, hj, rfl, hTj⟩ := hasB_of c5
    have hz : V j = getV T V (nI j) := by unfold getV; rw [if_pos c5, nI_clamp (by omega)]
    refine lv_aload_n F.1 F.2.1 dX0_get_10 rfl (lv_at hl 0 rfl) ?_
    refine lv_iload_n F.1 F.2.1 dX0_get_11 rfl (lv_at hl 1 rfl) ?_
    refine k_X0_bucketOf F (by omega) hI.1 hX ⟨by rw [hRm]; decide, by rw [hRm]; decide⟩ ⟨Nat.zero_le _, Nat.zero_le _⟩ hl.1 (Nat.le_of_ble_eq_true rfl) dX0_get_12 (fun H locs hX => ?_)
    obtain ⟨hb, hlo, hde6, hke⟩ := sI_in hI j
    refine lv_istore_n (lv' := [(2, .int _), (0, .ref _), (1, .int _)]) F.1 F.2.1 dX0_get_15 rfl hl (by decide) rfl (fun ls hl => ?_)
    refine lv_aload_n F.1 F.2.1 dX0_get_16 rfl (lv_at hl 1 rfl) ?_
    refine lv_iload_n F.1 F.2.1 dX0_get_17 rfl (lv_at hl 0 rfl) ?_
    refine lv_iload_n F.1 F.2.1 dX0_get_18 rfl (lv_at hl 2 rfl) ?_
    refine k_X0_find F (by omega) (by omega) (fun i hi => Nat.lt_trans (hke i hi) (by omega)) (by omega) hX ⟨by rw [hRm]; decide, by rw [hRm]; decide⟩ ⟨Nat.zero_le _, Nat.zero_le _⟩ hl.1 (Nat.le_of_ble_eq_true rfl) dX0_get_19 (fun r u H locs hp hX => ?_)
    obtain ⟨rfl, hfd⟩ := hp
    have hfd := fd_T hI hj hfd
    rcases hfd with ⟨i, hi, hki, rfl, hT, hva⟩ | ⟨hT, rfl⟩
    · refine lv_istore_n (lv' := [(3, .int _), (2, .int _), (0, .ref _), (1, .int _)]) F.1 F.2.1 dX0_get_22 rfl hl (by decide) rfl (fun ls hl => ?_)
      refine lv_iload_n F.1 F.2.1 dX0_get_23 rfl (lv_at hl 0 rfl) ?_
      refine nv_if_ge (tgt := 31) F dX0_get_24 (by decide) (by omega) ?_
      refine lv_aload_n F.1 F.2.1 dX0_get_31 rfl (lv_at hl 2 rfl) ?_
      refine g_sd_va F hX dX0_get_32 ?_
      refine lv_iload_n F.1 F.2.1 dX0_get_35 rfl (lv_at hl 1 rfl) ?_
      refine lv_iconst (v := nI 5) F.1 F.2.1 dX0_get_36 (by decide +kernel) ?_
      refine nv_imul F dX0_get_37 ?_
      refine lv_iload_n F.1 F.2.1 dX0_get_38 rfl (lv_at hl 0 rfl) ?_
      refine nv_iadd F dX0_get_39 ?_
      refine ld_sd_va F hX (by omega) dX0_get_40 ?_
      rw [hva]
      exact hend _ _ _ _ _ _ ⟨rfl, hz⟩ hX dX0_get_41
    · rw [hTj] at hT
      cases hT
  · have hz : (0 : Int32) = getV T V k := by unfold getV; simp [c5]
    refine lv_iconst (v := 0) F.1 F.2.1 dX0_get_8 (by decide +kernel) ?_
    exact hend _ _ _ _ _ _ ⟨rfl, hz⟩ hX dX0_get_9
set_option maxHeartbeats 4000000 in
set_option maxRecDepth 100000 in
/-- put(k, v) -/
theorem m_X0_put (l : Launch) (D : va_G) (h : Nat → Nat) (cs : Nat → ClassId) {dp bc kc : Nat} {di de lo ke : Nat → Nat} {us : Nat → Bool} {va : Nat → Int32} {k v : Int32} {T : Nat → Bool} {V : Nat → Int32} (hI : sI (dp, bc, kc, di, us, de, lo, ke, va) T V) : cI l yX0_put cX0_put 5 (some .int) ({ frames := 3, cells := 0, slots := 0, locals := 75 } : Room) D (sdT cs) (sdW h cs (dp, bc, kc, di, us, de, lo, ke, va)) [.ref (h 0), .int k, .int v] (sdW h cs) (fun (r : Int32) (u : SD) => (kB k = false ∧ r = -1 ∧ u = (dp, bc, kc, di, us, de, lo, ke, va)) ∨ ∃ j, j < 256 ∧ k = nI j ∧ ((T j = false ∧ 40 ≤ cN T 256 ∧ r = -2 ∧ u = (dp, bc, kc, di, us, de, lo, ke, va)) ∨ (¬ (T j = false ∧ 40 ≤ cN T 256) ∧ r = nI (bk (va_up T j true)) ∧ sI u (va_up T j true) (va_up V j v)))) := by
  refine c_int (own := RX0) (by decide) rfl (Nat.le_of_ble_eq_true rfl) ?_
  intro p e s m below meth c A Q ls R args hRm F hend hX hl
  have hl : lv_has ls 5 [(0, .ref (h 0)), (1, .int k), (2, .int v)] := hl
  refine lv_iload_n F.1 F.2.1 dX0_put_0 rfl (lv_at hl 1 rfl) ?_
  refine k_X0_isKey F  hX ⟨by rw [hRm]; decide, by rw [hRm]; decide⟩ ⟨Nat.zero_le _, Nat.zero_le _⟩ hl.1 (Nat.le_of_ble_eq_true rfl) dX0_put_1 (fun H locs hX => ?_)
  refine nv_ifB_ne (tgt := 9) F dX0_put_4 (by decide) (fun c4 => ?_) (fun c4 => ?_)
  · obtain ⟨j, hj, rfl⟩ := kB_of c4
    refine lv_aload_n F.1 F.2.1 dX0_put_9 rfl (lv_at hl 0 rfl) ?_
    refine lv_iload_n F.1 F.2.1 dX0_put_10 rfl (lv_at hl 1 rfl) ?_
    refine k_X0_bucketOf F (by omega) hI.1 hX ⟨by rw [hRm]; decide, by rw [hRm]; decide⟩ ⟨Nat.zero_le _, Nat.zero_le _⟩ hl.1 (Nat.le_of_ble_eq_true rfl) dX0_put_11 (fun H locs hX => ?_)
    obtain ⟨hb, hlo, hde6, hke⟩ := sI_in hI j
    refine lv_istore_n (lv' := [(3, .int _), (0, .ref _), (1, .int _), (2, .int _)]) F.1 F.2.1 dX0_put_14 rfl hl (by decide) rfl (fun ls hl => ?_)
    refine lv_aload_n F.1 F.2.1 dX0_put_15 rfl (lv_at hl 1 rfl) ?_
    refine lv_iload_n F.1 F.2.1 dX0_put_16 rfl (lv_at hl 0 rfl) ?_
    refine lv_iload_n F.1 F.2.1 dX0_put_17 rfl (lv_at hl 2 rfl) ?_
    refine k_X0_find F (by omega) (by omega) (fun i hi => Nat.lt_trans (hke i hi) (by omega)) (by omega) hX ⟨by rw [hRm]; decide, by rw [hRm]; decide⟩ ⟨Nat.zero_le _, Nat.zero_le _⟩ hl.1 (Nat.le_of_ble_eq_true rfl) dX0_put_18 (fun r u H locs hp hX => ?_)
    obtain ⟨rfl, hfd⟩ := hp
    have hfd := fd_T hI hj hfd
    rcases hfd with ⟨i, hi, hki, rfl, hT, hva⟩ | ⟨hT, rfl⟩
    · refine lv_istore (lv' := [(4, .int _), (3, .int _), (0, .ref _), (1, .int _), (2, .int _)]) F.1 F.2.1 dX0_put_21 hl (by decide) rfl (fun ls hl => ?_)
      refine lv_iload F.1 F.2.1 dX0_put_23 (lv_at hl 0 rfl) ?_
      refine nv_if_lt (tgt := 45) F dX0_put_25 (by decide) (by omega) ?_
      refine lv_aload_n F.1 F.2.1 dX0_put_28 rfl (lv_at hl 2 rfl) ?_
      refine g_sd_va F hX dX0_put_29 ?_
      refine lv_iload_n F.1 F.2.1 dX0_put_32 rfl (lv_at hl 1 rfl) ?_
      refine lv_iconst (v := nI 5) F.1 F.2.1 dX0_put_33 (by decide +kernel) ?_
      refine nv_imul F dX0_put_34 ?_
      refine lv_iload F.1 F.2.1 dX0_put_35 (lv_at hl 0 rfl) ?_
      refine nv_iadd F dX0_put_37 ?_
      refine lv_iload_n F.1 F.2.1 dX0_put_38 rfl (lv_at hl 4 rfl) ?_
      refine st_sd_va F hX (by omega) dX0_put_39 (fun H locs hX => ?_)
      refine lv_aload_n F.1 F.2.1 dX0_put_40 rfl (lv_at hl 2 rfl) ?_
      refine g_sd_bc F hX dX0_put_41 ?_
      refine hend _ _ _ _ _ _ (Or.inr ⟨j, hj, rfl, Or.inr ⟨fun q => (by rw [hT] at q; cases q.1), ?_, ?_⟩⟩) hX dX0_put_44
      · rw [up_id hT, ← sI_bk hI]
      · rw [up_id hT]
        exact sI_set hI hi hki
    · obtain ⟨hkc, hkc2⟩ := sI_kc hI
      refine lv_istore (lv' := [(4, .int _), (3, .int _), (0, .ref _), (1, .int _), (2, .int _)]) F.1 F.2.1 dX0_put_21 hl (by decide) rfl (fun ls hl => ?_)
      refine lv_iload F.1 F.2.1 dX0_put_23 (lv_at hl 0 rfl) ?_
      refine lv_if_lt (tgt := 45) F.1 F.2.1 dX0_put_25 (by decide) (fun c25 => ?_) (fun c25 => ?_)
      · refine lv_aload_n F.1 F.2.1 dX0_put_45 rfl (lv_at hl 2 rfl) ?_
        refine g_sd_kc F hX dX0_put_46 ?_
        refine lv_bipush (v := nI 40) F.1 F.2.1 dX0_put_49 (by decide +kernel) ?_
        refine nv_icmp_lt (tgt := 57) F dX0_put_51 (by decide) (by omega) (by omega) (fun c51 => ?_) (fun c51 => ?_)
        · refine lv_aload_n F.1 F.2.1 dX0_put_57 rfl (lv_at hl 2 rfl) ?_
          refine lv_iload_n F.1 F.2.1 dX0_put_58 rfl (lv_at hl 3 rfl) ?_
          refine lv_iload_n F.1 F.2.1 dX0_put_59 rfl (lv_at hl 4 rfl) ?_
          refine k_X0_insert F hI hj hT hX ⟨by rw [hRm]; decide, by rw [hRm]; decide⟩ ⟨Nat.zero_le _, Nat.zero_le _⟩ hl.1 (Nat.le_of_ble_eq_true rfl) dX0_put_60 (fun u H locs hp hX => ?_)
          obtain ⟨dp1, bc1, kc1, di1, us1, de1, lo1, ke1, va1⟩ := u
          refine lv_aload_n F.1 F.2.1 dX0_put_63 rfl (lv_at hl 2 rfl) ?_
          refine g_sd_bc F hX dX0_put_64 ?_
          exact hend _ _ _ _ _ _ (Or.inr ⟨j, hj, rfl, Or.inr ⟨fun q => by omega, by rw [sI_bk hp], hp⟩⟩) hX dX0_put_67
        · refine lv_bipush (v := -2) F.1 F.2.1 dX0_put_54 (by decide +kernel) ?_
          exact hend _ _ _ _ _ _ (Or.inr ⟨j, hj, rfl, Or.inl ⟨hT, by omega, rfl, rfl⟩⟩) hX dX0_put_56
      · exact absurd (by decide) c25
  · refine lv_iconst (v := -1) F.1 F.2.1 dX0_put_7 (by decide +kernel) ?_
    exact hend _ _ _ _ _ _ (Or.inl ⟨c4, rfl, rfl⟩) hX dX0_put_8
set_option maxHeartbeats 4000000 in
set_option maxRecDepth 100000 in
/-- remove(k) -/
theorem m_X0_remove (l : Launch) (D : va_G) (h : Nat → Nat) (cs : Nat → ClassId) {dp bc kc : Nat} {di de lo ke : Nat → Nat} {us : Nat → Bool} {va : Nat → Int32} {k : Int32} {T : Nat → Bool} {V : Nat → Int32} (hI : sI (dp, bc, kc, di, us, de, lo, ke, va) T V) : cI l yX0_remove cX0_remove 4 (some .int) ({ frames := 3, cells := 0, slots := 0, locals := 73 } : Room) D (sdT cs) (sdW h cs (dp, bc, kc, di, us, de, lo, ke, va)) [.ref (h 0), .int k] (sdW h cs) (fun (r : Int32) (u : SD) => (hasB T k = false ∧ r = -1 ∧ u = (dp, bc, kc, di, us, de, lo, ke, va)) ∨ ∃ j, j < 256 ∧ k = nI j ∧ T j = true ∧ r = nI (bk (va_up T j false)) ∧ sI u (va_up T j false) V) := by
  refine c_int (own := RX0) (by decide) rfl (Nat.le_of_ble_eq_true rfl) ?_
  intro p e s m below meth c A Q ls R args hRm F hend hX hl
  have hl : lv_has ls 4 [(0, .ref (h 0)), (1, .int k)] := hl
  refine lv_aload_n F.1 F.2.1 dX0_remove_0 rfl (lv_at hl 0 rfl) ?_
  refine lv_iload_n F.1 F.2.1 dX0_remove_1 rfl (lv_at hl 1 rfl) ?_
  refine k_X0_has F hI hX ⟨by rw [hRm]; decide, by rw [hRm]; decide⟩ ⟨Nat.zero_le _, Nat.zero_le _⟩ hl.1 (Nat.le_of_ble_eq_true rfl) dX0_remove_2 (fun H locs hX => ?_)
  refine nv_ifB_ne (tgt := 10) F dX0_remove_5 (by decide) (fun c5 => ?_) (fun c5 => ?_)
  · obtain ⟨j, hj, rfl, hTj⟩ := hasB_of c5
    refine lv_aload_n F.1 F.2.1 dX0_remove_10 rfl (lv_at hl 0 rfl) ?_
    refine lv_iload_n F.1 F.2.1 dX0_remove_11 rfl (lv_at hl 1 rfl) ?_
    refine k_X0_bucketOf F (by omega) hI.1 hX ⟨by rw [hRm]; decide, by rw [hRm]; decide⟩ ⟨Nat.zero_le _, Nat.zero_le _⟩ hl.1 (Nat.le_of_ble_eq_true rfl) dX0_remove_12 (fun H locs hX => ?_)
    obtain ⟨hb, hlo, hde6, hke⟩ := sI_in hI j
    refine lv_istore_n (lv' := [(2, .int _), (0, .ref _), (1, .int _)]) F.1 F.2.1 dX0_remove_15 rfl hl (by decide) rfl (fun ls hl => ?_)
    refine lv_aload_n F.1 F.2.1 dX0_remove_16 rfl (lv_at hl 1 rfl) ?_
    refine lv_iload_n F.1 F.2.1 dX0_remove_17 rfl (lv_at hl 0 rfl) ?_
    refine lv_iload_n F.1 F.2.1 dX0_remove_18 rfl (lv_at hl 2 rfl) ?_
    refine k_X0_find F (by omega) (by omega) (fun i hi => Nat.lt_trans (hke i hi) (by omega)) (by omega) hX ⟨by rw [hRm]; decide, by rw [hRm]; decide⟩ ⟨Nat.zero_le _, Nat.zero_le _⟩ hl.1 (Nat.le_of_ble_eq_true rfl) dX0_remove_19 (fun r u H locs hp hX => ?_)
    obtain ⟨rfl, hfd⟩ := hp
    have hfd := fd_T hI hj hfd
    rcases hfd with ⟨i, hi, hki, rfl, hT, hva⟩ | ⟨hT, rfl⟩
    · refine lv_istore_n (lv' := [(3, .int _), (2, .int _), (0, .ref _), (1, .int _)]) F.1 F.2.1 dX0_remove_22 rfl hl (by decide) rfl (fun ls hl => ?_)
      refine lv_aload_n F.1 F.2.1 dX0_remove_23 rfl (lv_at hl 2 rfl) ?_
      refine lv_iload_n F.1 F.2.1 dX0_remove_24 rfl (lv_at hl 1 rfl) ?_
      refine lv_iload_n F.1 F.2.1 dX0_remove_25 rfl (lv_at hl 0 rfl) ?_
      refine lv_iload_n F.1 F.2.1 dX0_remove_26 rfl (lv_at hl 3 rfl) ?_
      refine k_X0_delete F hI hj hi hki hX ⟨by rw [hRm]; decide, by rw [hRm]; decide⟩ ⟨Nat.zero_le _, Nat.zero_le _⟩ hl.1 (Nat.le_of_ble_eq_true rfl) dX0_remove_27 (fun u H locs hp hX => ?_)
      obtain ⟨dp1, bc1, kc1, di1, us1, de1, lo1, ke1, va1⟩ := u
      refine lv_aload_n F.1 F.2.1 dX0_remove_30 rfl (lv_at hl 2 rfl) ?_
      refine g_sd_bc F hX dX0_remove_31 ?_
      exact hend _ _ _ _ _ _ (Or.inr ⟨j, hj, rfl, hTj, by rw [sI_bk hp], hp⟩) hX dX0_remove_34
    · rw [hTj] at hT
      cases hT
  · refine lv_iconst (v := -1) F.1 F.2.1 dX0_remove_8 (by decide +kernel) ?_
    exact hend _ _ _ _ _ _ (Or.inl ⟨c5, rfl, rfl⟩) hX dX0_remove_9
set_option maxRecDepth 100000 in
theorem k_X0_remove {p : Program} {l : Launch} {e : Env} {R : Room} {s : State} {m : MethodId} {args : Array Value} {below : List Frame} {meth : Method} {c : Code} {H : Heap} {locs : List Loc} {cells slots : Nat} {Q : State → Prop} {cc : ByteArray} {pc : Nat} {ls : Array Slot} {rest : List Value} {nL : Nat} {D : va_G} {A : Nat → Prop} {h : Nat → Nat} {cs : Nat → ClassId} {dp bc kc : Nat} {di de lo ke : Nat → Nat} {us : Nat → Bool} {va : Nat → Int32} {k : Int32} {T : Nat → Bool} {V : Nat → Int32} (F : CallFix p m c cc nL s args lw_all RX0) (hI : sI (dp, bc, kc, di, us, de, lo, ke, va) T V) (hX : wX D (sdT cs) A s (sdW h cs (dp, bc, kc, di, us, de, lo, ke, va)) H locs) (hR : 4 ≤ R.frames ∧ 96 ≤ R.locals) (hcs : cells ≤ R.cells ∧ slots ≤ R.slots) (hls : ls.size = nL) (hrest : (rest.map fun v => v.category).sum ≤ 8) (hdg : decode cc pc = .ok (.invokevirtual 80, 3)) (kk : ∀ (r : Int32) (u : SD) (H1 : Heap) (locs1 : List Loc), ((hasB T k = false ∧ r = -1 ∧ u = (dp, bc, kc, di, us, de, lo, ke, va)) ∨ ∃ j, j < 256 ∧ k = nI j ∧ T j = true ∧ r = nI (bk (va_up T j false)) ∧ sI u (va_up T j false) V) → wX D (sdT cs) A s (sdW h cs u) H1 locs1 → W p l e R s m args below meth c H1 locs1 cells slots Q (F0 m (pc + 3) ls (.int r :: rest))) : W p l e R s m args below meth c H locs cells slots Q (F0 m pc ls (.int k :: .ref (h 0) :: rest)) :=
  c_calli (C := RX0) (As := [.int k]) (rest := rest) F (m_X0_remove l D h cs hI) q148 q87 q88 q13 q89 (n := 1) rfl (by decide +kernel) ⟨hR.1, by have := hR.2; exact this⟩ rfl rfl hX (ci := 0) rfl rfl rfl rfl hls hrest hcs hdg (kk)
set_option maxHeartbeats 4000000 in
set_option maxRecDepth 100000 in
/-- depthOf(k) -/
theorem m_X0_depthOf (l : Launch) (D : va_G) (h : Nat → Nat) (cs : Nat → ClassId) {dp bc kc : Nat} {di de lo ke : Nat → Nat} {us : Nat → Bool} {va : Nat → Int32} {k : Int32} {T : Nat → Bool} {V : Nat → Int32} (hI : sI (dp, bc, kc, di, us, de, lo, ke, va) T V) : cI l yX0_depthOf cX0_depthOf 3 (some .int) ({ frames := 1, cells := 0, slots := 0, locals := 21 } : Room) D (sdT cs) (sdW h cs (dp, bc, kc, di, us, de, lo, ke, va)) [.ref (h 0), .int k] (sdW h cs) (fun (r : Int32) (u : SD) => (kB k = false ∧ r = -1 ∧ u = (dp, bc, kc, di, us, de, lo, ke, va)) ∨ ∃ j, j < 256 ∧ k = nI j ∧ u = (dp, bc, kc, di, us, de, lo, ke, va) ∧ ∃ d, iB T j d = true ∧ r = nI (d)) := by
  refine c_int (own := RX0) (by decide) rfl (Nat.le_of_ble_eq_true rfl) ?_
  intro p e s m below meth c A Q ls R args hRm F hend hX hl
  have hl : lv_has ls 3 [(0, .ref (h 0)), (1, .int k)] := hl
  refine lv_iload_n F.1 F.2.1 dX0_depthOf_0 rfl (lv_at hl 1 rfl) ?_
  refine k_X0_isKey F  hX ⟨by rw [hRm]; decide, by rw [hRm]; decide⟩ ⟨Nat.zero_le _, Nat.zero_le _⟩ hl.1 (Nat.le_of_ble_eq_true rfl) dX0_depthOf_1 (fun H locs hX => ?_)
  refine nv_ifB_ne (tgt := 9) F dX0_depthOf_4 (by decide) (fun c4 => ?_) (fun c4 => ?_)
  · obtain ⟨j, hj, rfl⟩ := kB_of c4
    refine lv_aload_n F.1 F.2.1 dX0_depthOf_9 rfl (lv_at hl 0 rfl) ?_
    refine lv_iload_n F.1 F.2.1 dX0_depthOf_10 rfl (lv_at hl 1 rfl) ?_
    refine k_X0_bucketOf F (by omega) hI.1 hX ⟨by rw [hRm]; decide, by rw [hRm]; decide⟩ ⟨Nat.zero_le _, Nat.zero_le _⟩ hl.1 (Nat.le_of_ble_eq_true rfl) dX0_depthOf_11 (fun H locs hX => ?_)
    obtain ⟨hb, hlo, hde6, hke⟩ := sI_in hI j
    refine lv_istore_n (lv' := [(2, .int _), (0, .ref _), (1, .int _)]) F.1 F.2.1 dX0_depthOf_14 rfl hl (by decide) rfl (fun ls hl => ?_)
    refine lv_aload_n F.1 F.2.1 dX0_depthOf_15 rfl (lv_at hl 1 rfl) ?_
    refine g_sd_de F hX dX0_depthOf_16 ?_
    refine lv_iload_n F.1 F.2.1 dX0_depthOf_19 rfl (lv_at hl 0 rfl) ?_
    refine ld_sd_de F hX (by omega) dX0_depthOf_20 ?_
    exact hend _ _ _ _ _ _ (Or.inr ⟨j, hj, rfl, rfl, _, sI_iB hI j, rfl⟩) hX dX0_depthOf_21
  · refine lv_iconst (v := -1) F.1 F.2.1 dX0_depthOf_7 (by decide +kernel) ?_
    exact hend _ _ _ _ _ _ (Or.inl ⟨c4, rfl, rfl⟩) hX dX0_depthOf_8
set_option maxHeartbeats 4000000 in
set_option maxRecDepth 100000 in
/-- load(k) -/
theorem m_X0_load (l : Launch) (D : va_G) (h : Nat → Nat) (cs : Nat → ClassId) {dp bc kc : Nat} {di de lo ke : Nat → Nat} {us : Nat → Bool} {va : Nat → Int32} {k : Int32} {T : Nat → Bool} {V : Nat → Int32} (hI : sI (dp, bc, kc, di, us, de, lo, ke, va) T V) : cI l yX0_load cX0_load 3 (some .int) ({ frames := 1, cells := 0, slots := 0, locals := 21 } : Room) D (sdT cs) (sdW h cs (dp, bc, kc, di, us, de, lo, ke, va)) [.ref (h 0), .int k] (sdW h cs) (fun (r : Int32) (u : SD) => (kB k = false ∧ r = -1 ∧ u = (dp, bc, kc, di, us, de, lo, ke, va)) ∨ ∃ j, j < 256 ∧ k = nI j ∧ u = (dp, bc, kc, di, us, de, lo, ke, va) ∧ ∃ d, iB T j d = true ∧ r = nI (ct T j d)) := by
  refine c_int (own := RX0) (by decide) rfl (Nat.le_of_ble_eq_true rfl) ?_
  intro p e s m below meth c A Q ls R args hRm F hend hX hl
  have hl : lv_has ls 3 [(0, .ref (h 0)), (1, .int k)] := hl
  refine lv_iload_n F.1 F.2.1 dX0_load_0 rfl (lv_at hl 1 rfl) ?_
  refine k_X0_isKey F  hX ⟨by rw [hRm]; decide, by rw [hRm]; decide⟩ ⟨Nat.zero_le _, Nat.zero_le _⟩ hl.1 (Nat.le_of_ble_eq_true rfl) dX0_load_1 (fun H locs hX => ?_)
  refine nv_ifB_ne (tgt := 9) F dX0_load_4 (by decide) (fun c4 => ?_) (fun c4 => ?_)
  · obtain ⟨j, hj, rfl⟩ := kB_of c4
    refine lv_aload_n F.1 F.2.1 dX0_load_9 rfl (lv_at hl 0 rfl) ?_
    refine lv_iload_n F.1 F.2.1 dX0_load_10 rfl (lv_at hl 1 rfl) ?_
    refine k_X0_bucketOf F (by omega) hI.1 hX ⟨by rw [hRm]; decide, by rw [hRm]; decide⟩ ⟨Nat.zero_le _, Nat.zero_le _⟩ hl.1 (Nat.le_of_ble_eq_true rfl) dX0_load_11 (fun H locs hX => ?_)
    obtain ⟨hb, hlo, hde6, hke⟩ := sI_in hI j
    refine lv_istore_n (lv' := [(2, .int _), (0, .ref _), (1, .int _)]) F.1 F.2.1 dX0_load_14 rfl hl (by decide) rfl (fun ls hl => ?_)
    refine lv_aload_n F.1 F.2.1 dX0_load_15 rfl (lv_at hl 1 rfl) ?_
    refine g_sd_lo F hX dX0_load_16 ?_
    refine lv_iload_n F.1 F.2.1 dX0_load_19 rfl (lv_at hl 0 rfl) ?_
    refine ld_sd_lo F hX (by omega) dX0_load_20 ?_
    exact hend _ _ _ _ _ _ (Or.inr ⟨j, hj, rfl, rfl, _, sI_iB hI j, by rw [sI_ct hI]⟩) hX dX0_load_21
  · refine lv_iconst (v := -1) F.1 F.2.1 dX0_load_7 (by decide +kernel) ?_
    exact hend _ _ _ _ _ _ (Or.inl ⟨c4, rfl, rfl⟩) hX dX0_load_8
set_option maxHeartbeats 4000000 in
set_option maxRecDepth 100000 in
/-- together(a, b) -/
theorem m_X0_together (l : Launch) (D : va_G) (h : Nat → Nat) (cs : Nat → ClassId) {dp bc kc : Nat} {di de lo ke : Nat → Nat} {us : Nat → Bool} {va : Nat → Int32} {k k2 : Int32} {T : Nat → Bool} {V : Nat → Int32} (hI : sI (dp, bc, kc, di, us, de, lo, ke, va) T V) : cI l yX0_together cX0_together 4 (some .boolean) ({ frames := 1, cells := 0, slots := 0, locals := 21 } : Room) D (sdT cs) (sdW h cs (dp, bc, kc, di, us, de, lo, ke, va)) [.ref (h 0), .int k, .int k2] (sdW h cs) (fun (r : Int32) (u : SD) => ∃ z : Bool, r = nI z.toNat ∧ u = (dp, bc, kc, di, us, de, lo, ke, va) ∧ ((kB k = false ∧ z = false) ∨ ∃ j, j < 256 ∧ k = nI j ∧ ∃ d, iB T j d = true ∧ z = (kB k2 && (k2.toNatClampNeg % 2 ^ d == j % 2 ^ d)))) := by
  refine c_bool (post := fun (z : Bool) (u : SD) => u = (dp, bc, kc, di, us, de, lo, ke, va) ∧ ((kB k = false ∧ z = false) ∨ ∃ j, j < 256 ∧ k = nI j ∧ ∃ d, iB T j d = true ∧ z = (kB k2 && (k2.toNatClampNeg % 2 ^ d == j % 2 ^ d)))) (own := RX0) (by decide) rfl (Nat.le_of_ble_eq_true rfl) ?_
  intro p e s m below meth c A Q ls R args hRm F hend hX hl
  have hl : lv_has ls 4 [(0, .ref (h 0)), (1, .int k), (2, .int k2)] := hl
  refine lv_iload_n F.1 F.2.1 dX0_together_0 rfl (lv_at hl 1 rfl) ?_
  refine k_X0_isKey F  hX ⟨by rw [hRm]; decide, by rw [hRm]; decide⟩ ⟨Nat.zero_le _, Nat.zero_le _⟩ hl.1 (Nat.le_of_ble_eq_true rfl) dX0_together_1 (fun H locs hX => ?_)
  refine nv_ifB_eq (tgt := 14) F dX0_together_4 (by decide) (fun c4 => ?_) (fun c4 => ?_)
  · have hz : (kB k = false ∧ (false : Bool) = false) ∨ ∃ j, j < 256 ∧ k = nI j ∧ ∃ d, iB T j d = true ∧ (false : Bool) = (kB k2 && (k2.toNatClampNeg % 2 ^ d == j % 2 ^ d)) := Or.inl ⟨c4, rfl⟩
    refine lv_iconst (v := nI (false).toNat) F.1 F.2.1 dX0_together_14 (by decide +kernel) ?_
    exact hend _ _ false _ _ _ ⟨rfl, hz⟩ hX dX0_together_15
  · obtain ⟨j, hj, rfl⟩ := kB_of c4
    refine lv_iload_n F.1 F.2.1 dX0_together_7 rfl (lv_at hl 2 rfl) ?_
    refine k_X0_isKey F  hX ⟨by rw [hRm]; decide, by rw [hRm]; decide⟩ ⟨Nat.zero_le _, Nat.zero_le _⟩ hl.1 (Nat.le_of_ble_eq_true rfl) dX0_together_8 (fun H locs hX => ?_)
    refine nv_ifB_ne (tgt := 16) F dX0_together_11 (by decide) (fun c11 => ?_) (fun c11 => ?_)
    · obtain ⟨j2, hj2, rfl⟩ := kB_of c11
      refine lv_aload_n F.1 F.2.1 dX0_together_16 rfl (lv_at hl 0 rfl) ?_
      refine lv_iload_n F.1 F.2.1 dX0_together_17 rfl (lv_at hl 1 rfl) ?_
      refine k_X0_bucketOf F (by omega) hI.1 hX ⟨by rw [hRm]; decide, by rw [hRm]; decide⟩ ⟨Nat.zero_le _, Nat.zero_le _⟩ hl.1 (Nat.le_of_ble_eq_true rfl) dX0_together_18 (fun H locs hX => ?_)
      obtain ⟨hb, hlo, hde6, hke⟩ := sI_in hI j
      refine lv_istore_n (lv' := [(3, .int _), (0, .ref _), (1, .int _), (2, .int _)]) F.1 F.2.1 dX0_together_21 rfl hl (by decide) rfl (fun ls hl => ?_)
      refine lv_iload_n F.1 F.2.1 dX0_together_22 rfl (lv_at hl 0 rfl) ?_
      refine lv_aload_n F.1 F.2.1 dX0_together_23 rfl (lv_at hl 1 rfl) ?_
      refine lv_iload_n F.1 F.2.1 dX0_together_24 rfl (lv_at hl 3 rfl) ?_
      refine k_X0_bucketOf F (by omega) hI.1 hX ⟨by rw [hRm]; decide, by rw [hRm]; decide⟩ ⟨Nat.zero_le _, Nat.zero_le _⟩ hl.1 (Nat.le_of_ble_eq_true rfl) dX0_together_25 (fun H locs hX => ?_)
      obtain ⟨hb2, -⟩ := sI_in hI j2
      have hbe := be_eq hI j j2
      refine nv_icmp_ne (tgt := 35) F dX0_together_28 (by decide) (by omega) (by omega) (fun c28 => ?_) (fun c28 => ?_)
      · have hz : (false : Bool) = (kB (nI j2) && ((nI j2).toNatClampNeg % 2 ^ de (be dp di j) == j % 2 ^ de (be dp di j))) := by
          rw [c11, nI_clamp (by omega)]
          have : ¬ j2 % 2 ^ de (be dp di j) = j % 2 ^ de (be dp di j) := fun q => c28 (hbe.mpr q)
          simp [this]
        refine lv_iconst (v := nI (false).toNat) F.1 F.2.1 dX0_together_35 (by decide +kernel) ?_
        exact hend _ _ false _ _ _ ⟨rfl, Or.inr ⟨j, hj, rfl, _, sI_iB hI j, hz⟩⟩ hX dX0_together_36
      · have hz : (true : Bool) = (kB (nI j2) && ((nI j2).toNatClampNeg % 2 ^ de (be dp di j) == j % 2 ^ de (be dp di j))) := by
          rw [c11, nI_clamp (by omega), hbe.mp c28]
          simp
        refine lv_iconst (v := nI (true).toNat) F.1 F.2.1 dX0_together_31 (by decide +kernel) ?_
        refine lv_goto (tgt := 36) F.1 F.2.1 dX0_together_32 (by decide) ?_
        exact hend _ _ true _ _ _ ⟨rfl, Or.inr ⟨j, hj, rfl, _, sI_iB hI j, hz⟩⟩ hX dX0_together_36
    · have hz : (kB (nI j) = false ∧ (false : Bool) = false) ∨ ∃ j2, j2 < 256 ∧ nI j = nI j2 ∧ ∃ d, iB T j2 d = true ∧ (false : Bool) = (kB k2 && (k2.toNatClampNeg % 2 ^ d == j2 % 2 ^ d)) := Or.inr ⟨j, hj, rfl, _, sI_iB hI j, by rw [c11]; rfl⟩
      refine lv_iconst (v := nI (false).toNat) F.1 F.2.1 dX0_together_14 (by decide +kernel) ?_
      exact hend _ _ false _ _ _ ⟨rfl, hz⟩ hX dX0_together_15
theorem sI_found {dp bc kc : Nat} {di : Nat → Nat} {us : Nat → Bool} {de lo ke : Nat → Nat} {va : Nat → Int32} {T : Nat → Bool} {V : Nat → Int32} (h : sI (dp, bc, kc, di, us, de, lo, ke, va) T V) (j : Nat) {i : Nat} {k2 : Int32} (hi : i < lo (be dp di j)) (hk : nI (cN (iP T j (de (be dp di j))) (ke (be dp di j * 5 + i))) = k2) : inR T j (de (be dp di j)) k2 (nI (ke (be dp di j * 5 + i))) := by
  have hb := be_eq h j (ke (be dp di j * 5 + i))
  obtain ⟨h6, hS, ⟨c1, c2, c3⟩, -⟩ := h
  obtain ⟨g1, g2, g3, -⟩ := c1 _ (hS.1 j).1 i hi
  refine Or.inl ⟨_, g1, ?_, hk, rfl⟩
  unfold iP
  rw [g2, hb.mp g3.symm]
  simp
theorem sI_none {dp bc kc : Nat} {di : Nat → Nat} {us : Nat → Bool} {de lo ke : Nat → Nat} {va : Nat → Int32} {T : Nat → Bool} {V : Nat → Int32} (h : sI (dp, bc, kc, di, us, de, lo, ke, va) T V) (j : Nat) {k2 : Int32} (hno : ∀ t, t < lo (be dp di j) → nI (cN (iP T j (de (be dp di j))) (ke (be dp di j * 5 + t))) ≠ k2) : inR T j (de (be dp di j)) k2 (-1) := by
  refine Or.inr ⟨fun t ht hP => ?_, rfl⟩
  unfold iP at hP
  simp only [Bool.and_eq_true, beq_iff_eq] at hP
  have hb := (be_eq h j t).mpr hP.2
  obtain ⟨h6, hS, ⟨c1, c2, c3⟩, -⟩ := h
  obtain ⟨i, g1, g2⟩ := c3 t ht hP.1
  rw [← hb] at g1 g2
  have := hno i g1
  rw [g2] at this
  exact this
set_option maxHeartbeats 4000000 in
set_option maxRecDepth 100000 in
/-- inBucket(key, k) -/
theorem m_X0_inBucket (l : Launch) (D : va_G) (h : Nat → Nat) (cs : Nat → ClassId) {dp bc kc : Nat} {di de lo ke : Nat → Nat} {us : Nat → Bool} {va : Nat → Int32} {k k2 : Int32} {T : Nat → Bool} {V : Nat → Int32} (hI : sI (dp, bc, kc, di, us, de, lo, ke, va) T V) : cI l yX0_inBucket cX0_inBucket 7 (some .int) ({ frames := 1, cells := 0, slots := 0, locals := 21 } : Room) D (sdT cs) (sdW h cs (dp, bc, kc, di, us, de, lo, ke, va)) [.ref (h 0), .int k, .int k2] (sdW h cs) (fun (r : Int32) (u : SD) => (kB k = false ∧ r = -1 ∧ u = (dp, bc, kc, di, us, de, lo, ke, va)) ∨ ∃ j, j < 256 ∧ k = nI j ∧ u = (dp, bc, kc, di, us, de, lo, ke, va) ∧ ∃ d, iB T j d = true ∧ inR T j d k2 r) := by
  refine c_int (own := RX0) (by decide) rfl (Nat.le_of_ble_eq_true rfl) ?_
  intro p e s m below meth c A Q ls R args hRm F hend hX hl
  have hl : lv_has ls 7 [(0, .ref (h 0)), (1, .int k), (2, .int k2)] := hl
  refine lv_iload_n F.1 F.2.1 dX0_inBucket_0 rfl (lv_at hl 1 rfl) ?_
  refine k_X0_isKey F  hX ⟨by rw [hRm]; decide, by rw [hRm]; decide⟩ ⟨Nat.zero_le _, Nat.zero_le _⟩ hl.1 (Nat.le_of_ble_eq_true rfl) dX0_inBucket_1 (fun H locs hX => ?_)
  refine nv_ifB_ne (tgt := 9) F dX0_inBucket_4 (by decide) (fun c4 => ?_) (fun c4 => ?_)
  · obtain ⟨j, hj, rfl⟩ := kB_of c4
    refine lv_aload_n F.1 F.2.1 dX0_inBucket_9 rfl (lv_at hl 0 rfl) ?_
    refine lv_iload_n F.1 F.2.1 dX0_inBucket_10 rfl (lv_at hl 1 rfl) ?_
    refine k_X0_bucketOf F (by omega) hI.1 hX ⟨by rw [hRm]; decide, by rw [hRm]; decide⟩ ⟨Nat.zero_le _, Nat.zero_le _⟩ hl.1 (Nat.le_of_ble_eq_true rfl) dX0_inBucket_11 (fun H locs hX => ?_)
    obtain ⟨hb, hlo, hde6, hke⟩ := sI_in hI j
    refine lv_istore_n (lv' := [(3, .int _), (0, .ref _), (1, .int _), (2, .int _)]) F.1 F.2.1 dX0_inBucket_14 rfl hl (by decide) rfl (fun ls hl => ?_)
    refine lv_iconst (v := nI 0) F.1 F.2.1 dX0_inBucket_15 (by decide +kernel) ?_
    refine lv_istore (lv' := [(4, .int _), (3, .int _), (0, .ref _), (1, .int _), (2, .int _)]) F.1 F.2.1 dX0_inBucket_16 hl (by decide) rfl (fun ls hl => ?_)
    have hrank := fun (i : Nat) (hi : i < lo (be dp di j)) => sI_rank hI j (x := ke (be dp di j * 5 + i)) (Nat.le_of_lt (hke i hi))
    have loop : ∀ (n i : Nat) (H : Heap) (locs : List Loc) (ls : Array Slot), lo (be dp di j) + 1 ≤ i + n → i ≤ lo (be dp di j) → (∀ t, t < i → nI (cN (iP T j (de (be dp di j))) (ke (be dp di j * 5 + t))) ≠ k2) → wX D (sdT cs) A s (sdW h cs (dp, bc, kc, di, us, de, lo, ke, va)) H locs → lv_has ls 7 [(0, .ref (h 0)), (2, .int k2), (3, .int (nI (be dp di j))), (4, .int (nI i))] → W p l e R s m args below meth c H locs 0 0 Q (F0 m 18 ls []) := by
      intro n
      induction n with
      | zero => intro i H locs ls h1 h2; omega
      | succ n ih =>
        intro i H locs ls hn hi hno hX hl
        have inner : i < lo (be dp di j) → ∀ (n q : Nat) (H : Heap) (locs : List Loc) (ls : Array Slot), lo (be dp di j) + 1 ≤ q + n → q ≤ lo (be dp di j) → wX D (sdT cs) A s (sdW h cs (dp, bc, kc, di, us, de, lo, ke, va)) H locs → lv_has ls 7 [(0, .ref (h 0)), (2, .int k2), (3, .int (nI (be dp di j))), (4, .int (nI i)), (5, .int (nI (cN (fun q => decide (ke (be dp di j * 5 + q) < ke (be dp di j * 5 + i))) q))), (6, .int (nI q))] → W p l e R s m args below meth c H locs 0 0 Q (F0 m 35 ls []) := by
          intro hi2 n
          have hki := hke i hi2
          induction n with
          | zero => intro q H locs ls h1 h2; omega
          | succ n ih2 =>
            intro q H locs ls hn hq hX hl
            have hcq := cN_le (fun q => decide (ke (be dp di j * 5 + q) < ke (be dp di j * 5 + i))) q
            refine lv_iload F.1 F.2.1 dX0_inBucket_35 (lv_at hl 5 rfl) ?_
            refine lv_aload_n F.1 F.2.1 dX0_inBucket_37 rfl (lv_at hl 0 rfl) ?_
            refine g_sd_lo F hX dX0_inBucket_38 ?_
            refine lv_iload_n F.1 F.2.1 dX0_inBucket_41 rfl (lv_at hl 2 rfl) ?_
            refine ld_sd_lo F hX (by omega) dX0_inBucket_42 ?_
            refine nv_icmp_ge (tgt := 87) F dX0_inBucket_43 (by decide) (by omega) (by omega) (fun c43 => ?_) (fun c43 => ?_)
            · have hq2 : q = lo (be dp di j) := by omega
              subst hq2
              have hrk : cN (fun q => decide (ke (be dp di j * 5 + q) < ke (be dp di j * 5 + i))) (lo (be dp di j)) = cN (iP T j (de (be dp di j))) (ke (be dp di j * 5 + i)) := hrank i hi2
              rw [hrk] at hl
              refine lv_iload F.1 F.2.1 dX0_inBucket_87 (lv_at hl 4 rfl) ?_
              refine lv_iload_n F.1 F.2.1 dX0_inBucket_89 rfl (lv_at hl 1 rfl) ?_
              refine lv_icmp_ne (tgt := 105) F.1 F.2.1 dX0_inBucket_90 (by decide) (fun c90 => ?_) (fun c90 => ?_)
              · refine nv_iinc (lv' := [(4, .int _), (0, .ref _), (2, .int _), (3, .int _), (5, .int _), (6, .int _)]) F dX0_inBucket_105 hl (k := 3) rfl (by decide) rfl (fun ls hl => ?_)
                refine lv_goto (tgt := 18) F.1 F.2.1 dX0_inBucket_108 (by decide) ?_
                refine ih (i + 1) _ _ _ (by omega) (by omega) (fun t ht => ?_) hX (lv_sub hl [1, 2, 3, 0] rfl)
                rcases Nat.lt_or_ge t i with z | z
                · exact hno t z
                · rw [show t = i by omega]
                  exact c90
              · refine lv_aload_n F.1 F.2.1 dX0_inBucket_93 rfl (lv_at hl 0 rfl) ?_
                refine g_sd_ke F hX dX0_inBucket_94 ?_
                refine lv_iload_n F.1 F.2.1 dX0_inBucket_97 rfl (lv_at hl 2 rfl) ?_
                refine lv_iconst (v := nI 5) F.1 F.2.1 dX0_inBucket_98 (by decide +kernel) ?_
                refine nv_imul F dX0_inBucket_99 ?_
                refine lv_iload F.1 F.2.1 dX0_inBucket_100 (lv_at hl 3 rfl) ?_
                refine nv_iadd F dX0_inBucket_102 ?_
                refine ld_sd_ke F hX (by omega) dX0_inBucket_103 ?_
                exact hend _ _ _ _ _ _ (Or.inr ⟨j, hj, rfl, rfl, _, sI_iB hI j, sI_found hI j hi2 c90⟩) hX dX0_inBucket_104
            · have hkq := hke q c43
              refine lv_iload F.1 F.2.1 dX0_inBucket_46 (lv_at hl 4 rfl) ?_
              refine lv_aload_n F.1 F.2.1 dX0_inBucket_48 rfl (lv_at hl 0 rfl) ?_
              refine g_sd_ke F hX dX0_inBucket_49 ?_
              refine lv_iload_n F.1 F.2.1 dX0_inBucket_52 rfl (lv_at hl 2 rfl) ?_
              refine lv_iconst (v := nI 5) F.1 F.2.1 dX0_inBucket_53 (by decide +kernel) ?_
              refine nv_imul F dX0_inBucket_54 ?_
              refine lv_iload F.1 F.2.1 dX0_inBucket_55 (lv_at hl 5 rfl) ?_
              refine nv_iadd F dX0_inBucket_57 ?_
              refine ld_sd_ke F hX (by omega) dX0_inBucket_58 ?_
              refine lv_aload_n F.1 F.2.1 dX0_inBucket_59 rfl (lv_at hl 0 rfl) ?_
              refine g_sd_ke F hX dX0_inBucket_60 ?_
              refine lv_iload_n F.1 F.2.1 dX0_inBucket_63 rfl (lv_at hl 2 rfl) ?_
              refine lv_iconst (v := nI 5) F.1 F.2.1 dX0_inBucket_64 (by decide +kernel) ?_
              refine nv_imul F dX0_inBucket_65 ?_
              refine lv_iload F.1 F.2.1 dX0_inBucket_66 (lv_at hl 3 rfl) ?_
              refine nv_iadd F dX0_inBucket_68 ?_
              refine ld_sd_ke F hX (by omega) dX0_inBucket_69 ?_
              refine nv_icmp_ge (tgt := 77) F dX0_inBucket_70 (by decide) (by omega) (by omega) (fun c70 => ?_) (fun c70 => ?_)
              · have hE : cN (fun q => decide (ke (be dp di j * 5 + q) < ke (be dp di j * 5 + i))) (q + 1) = cN (fun q => decide (ke (be dp di j * 5 + q) < ke (be dp di j * 5 + i))) q + 0 := cN_F (decide_eq_false (by omega))
                refine lv_iconst (v := nI 0) F.1 F.2.1 dX0_inBucket_77 (by decide +kernel) ?_
                refine nv_iadd F dX0_inBucket_78 ?_
                refine lv_istore (lv' := [(5, .int _), (0, .ref _), (2, .int _), (3, .int _), (4, .int _), (6, .int _)]) F.1 F.2.1 dX0_inBucket_79 hl (by decide) rfl (fun ls hl => ?_)
                refine nv_iinc (lv' := [(6, .int _), (5, .int _), (0, .ref _), (2, .int _), (3, .int _), (4, .int _)]) F dX0_inBucket_81 hl (k := 5) rfl (by decide) rfl (fun ls hl => ?_)
                refine lv_goto (tgt := 35) F.1 F.2.1 dX0_inBucket_84 (by decide) ?_
                exact ih2 (q + 1) _ _ _ (by omega) (by omega) hX (by rw [hE]; exact (lv_sub hl [2, 3, 4, 5, 1, 0] rfl))
              · have hE : cN (fun q => decide (ke (be dp di j * 5 + q) < ke (be dp di j * 5 + i))) (q + 1) = cN (fun q => decide (ke (be dp di j * 5 + q) < ke (be dp di j * 5 + i))) q + 1 := cN_T (decide_eq_true c70)
                refine lv_iconst (v := nI 1) F.1 F.2.1 dX0_inBucket_73 (by decide +kernel) ?_
                refine lv_goto (tgt := 78) F.1 F.2.1 dX0_inBucket_74 (by decide) ?_
                refine nv_iadd F dX0_inBucket_78 ?_
                refine lv_istore (lv' := [(5, .int _), (0, .ref _), (2, .int _), (3, .int _), (4, .int _), (6, .int _)]) F.1 F.2.1 dX0_inBucket_79 hl (by decide) rfl (fun ls hl => ?_)
                refine nv_iinc (lv' := [(6, .int _), (5, .int _), (0, .ref _), (2, .int _), (3, .int _), (4, .int _)]) F dX0_inBucket_81 hl (k := 5) rfl (by decide) rfl (fun ls hl => ?_)
                refine lv_goto (tgt := 35) F.1 F.2.1 dX0_inBucket_84 (by decide) ?_
                exact ih2 (q + 1) _ _ _ (by omega) (by omega) hX (by rw [hE]; exact (lv_sub hl [2, 3, 4, 5, 1, 0] rfl))
        refine lv_iload F.1 F.2.1 dX0_inBucket_18 (lv_at hl 3 rfl) ?_
        refine lv_aload_n F.1 F.2.1 dX0_inBucket_20 rfl (lv_at hl 0 rfl) ?_
        refine g_sd_lo F hX dX0_inBucket_21 ?_
        refine lv_iload_n F.1 F.2.1 dX0_inBucket_24 rfl (lv_at hl 2 rfl) ?_
        refine ld_sd_lo F hX (by omega) dX0_inBucket_25 ?_
        refine nv_icmp_ge (tgt := 111) F dX0_inBucket_26 (by decide) (by omega) (by omega) (fun c26 => ?_) (fun c26 => ?_)
        · refine lv_iconst (v := -1) F.1 F.2.1 dX0_inBucket_111 (by decide +kernel) ?_
          exact hend _ _ _ _ _ _ (Or.inr ⟨j, hj, rfl, rfl, _, sI_iB hI j, sI_none hI j (fun t ht => hno t (by omega))⟩) hX dX0_inBucket_112
        · refine lv_iconst (v := nI 0) F.1 F.2.1 dX0_inBucket_29 (by decide +kernel) ?_
          refine lv_istore (lv' := [(5, .int _), (0, .ref _), (2, .int _), (3, .int _), (4, .int _)]) F.1 F.2.1 dX0_inBucket_30 hl (by decide) rfl (fun ls hl => ?_)
          refine lv_iconst (v := nI 0) F.1 F.2.1 dX0_inBucket_32 (by decide +kernel) ?_
          refine lv_istore (lv' := [(6, .int _), (5, .int _), (0, .ref _), (2, .int _), (3, .int _), (4, .int _)]) F.1 F.2.1 dX0_inBucket_33 hl (by decide) rfl (fun ls hl => ?_)
          exact inner c26 (lo (be dp di j) + 1) 0 _ _ _ (by omega) (Nat.zero_le _) hX (lv_sub hl [2, 3, 4, 5, 1, 0] rfl)
    exact loop (lo (be dp di j) + 1) 0 _ _ _ (by omega) (Nat.zero_le _) (fun t ht => by omega) hX (lv_sub hl [2, 4, 1, 0] rfl)
  · refine lv_iconst (v := -1) F.1 F.2.1 dX0_inBucket_7 (by decide +kernel) ?_
    exact hend _ _ _ _ _ _ (Or.inl ⟨c4, rfl, rfl⟩) hX dX0_inBucket_8
set_option maxHeartbeats 4000000 in
set_option maxRecDepth 100000 in
/-- next(k) -/
theorem m_X0_next (l : Launch) (D : va_G) (h : Nat → Nat) (cs : Nat → ClassId) {dp bc kc : Nat} {di de lo ke : Nat → Nat} {us : Nat → Bool} {va : Nat → Int32} {k : Int32} {T : Nat → Bool} {V : Nat → Int32} (hI : sI (dp, bc, kc, di, us, de, lo, ke, va) T V) : cI l yX0_next cX0_next 3 (some .int) ({ frames := 2, cells := 0, slots := 0, locals := 45 } : Room) D (sdT cs) (sdW h cs (dp, bc, kc, di, us, de, lo, ke, va)) [.ref (h 0), .int k] (sdW h cs) (fun (r : Int32) (u : SD) => u = (dp, bc, kc, di, us, de, lo, ke, va) ∧ neR T k r) := by
  refine c_int (own := RX0) (by decide) rfl (Nat.le_of_ble_eq_true rfl) ?_
  intro p e s m below meth c A Q ls R args hRm F hend hX hl
  have hl : lv_has ls 3 [(0, .ref (h 0)), (1, .int k)] := hl
  have goend : ∀ (i : Nat) (H : Heap) (locs : List Loc) (ls : Array Slot), 256 ≤ i → i < 2 ^ 31 → (∀ t, t < i → T t = true → ¬ k ≤ nI t) → wX D (sdT cs) A s (sdW h cs (dp, bc, kc, di, us, de, lo, ke, va)) H locs → lv_has ls 3 [(0, .ref (h 0)), (1, .int k), (2, .int (nI i))] → W p l e R s m args below meth c H locs 0 0 Q (F0 m 10 ls []) := by
    intro i H locs ls hn hi hno hX hl
    refine lv_iload_n F.1 F.2.1 dX0_next_10 rfl (lv_at hl 2 rfl) ?_
    refine lv_sipush (v := nI 256) F.1 F.2.1 dX0_next_11 (by decide +kernel) ?_
    refine nv_icmp_ge (tgt := 33) F dX0_next_14 (by decide) (by omega) (by omega) (fun c14 => ?_) (fun c14 => ?_)
    · refine lv_iconst (v := -1) F.1 F.2.1 dX0_next_33 (by decide +kernel) ?_
      exact hend _ _ _ _ _ _ ⟨rfl, Or.inr ⟨fun t ht hT => hno t (by omega) hT, rfl⟩⟩ hX dX0_next_34
    · exact absurd c14 (by omega)
  have loop : ∀ (n i : Nat) (H : Heap) (locs : List Loc) (ls : Array Slot), 257 ≤ i + n → i < 2 ^ 31 → k ≤ nI i → (∀ t, t < i → T t = true → ¬ k ≤ nI t) → wX D (sdT cs) A s (sdW h cs (dp, bc, kc, di, us, de, lo, ke, va)) H locs → lv_has ls 3 [(0, .ref (h 0)), (1, .int k), (2, .int (nI i))] → W p l e R s m args below meth c H locs 0 0 Q (F0 m 10 ls []) := by
    intro n
    induction n with
    | zero => intro i H locs ls h1 h2 h3 h4 hX hl; exact goend i H locs ls (by omega) h2 h4 hX hl
    | succ n ih =>
      intro i H locs ls hn hi hki hno hX hl
      refine lv_iload_n F.1 F.2.1 dX0_next_10 rfl (lv_at hl 2 rfl) ?_
      refine lv_sipush (v := nI 256) F.1 F.2.1 dX0_next_11 (by decide +kernel) ?_
      refine nv_icmp_ge (tgt := 33) F dX0_next_14 (by decide) (by omega) (by omega) (fun c14 => ?_) (fun c14 => ?_)
      · refine lv_iconst (v := -1) F.1 F.2.1 dX0_next_33 (by decide +kernel) ?_
        exact hend _ _ _ _ _ _ ⟨rfl, Or.inr ⟨fun t ht hT => hno t (by omega) hT, rfl⟩⟩ hX dX0_next_34
      · refine lv_aload_n F.1 F.2.1 dX0_next_17 rfl (lv_at hl 0 rfl) ?_
        refine lv_iload_n F.1 F.2.1 dX0_next_18 rfl (lv_at hl 2 rfl) ?_
        refine k_X0_has F hI hX ⟨by rw [hRm]; decide, by rw [hRm]; decide⟩ ⟨Nat.zero_le _, Nat.zero_le _⟩ hl.1 (Nat.le_of_ble_eq_true rfl) dX0_next_19 (fun H locs hX => ?_)
        refine nv_ifB_eq (tgt := 27) F dX0_next_22 (by decide) (fun c22 => ?_) (fun c22 => ?_)
        · rw [hasB_nI c14] at c22
          refine nv_iinc (lv' := [(2, .int _), (0, .ref _), (1, .int _)]) F dX0_next_27 hl (k := 2) rfl (by decide) rfl (fun ls hl => ?_)
          refine lv_goto (tgt := 10) F.1 F.2.1 dX0_next_30 (by decide) ?_
          refine ih (i + 1) _ _ _ (by omega) (by omega) (Int32.le_trans hki (nI_le (by omega) (by omega))) (fun t ht hT => ?_) hX (lv_sub hl [1, 2, 0] rfl)
          rcases Nat.lt_or_ge t i with z | z
          · exact hno t z hT
          · rw [show t = i by omega, c22] at hT
            cases hT
        · rw [hasB_nI c14] at c22
          refine lv_iload_n F.1 F.2.1 dX0_next_25 rfl (lv_at hl 2 rfl) ?_
          exact hend _ _ _ _ _ _ ⟨rfl, Or.inl ⟨i, c14, c22, hki, hno, rfl⟩⟩ hX dX0_next_26
  refine lv_iload_n F.1 F.2.1 dX0_next_0 rfl (lv_at hl 1 rfl) ?_
  refine lv_if_ge (tgt := 8) F.1 F.2.1 dX0_next_1 (by decide) (fun c1 => ?_) (fun c1 => ?_)
  · obtain ⟨j, hj, rfl⟩ := nI_of (x := k) (by grind)
    have hst : ∀ t, t < j → T t = true → ¬ nI j ≤ nI t := fun t ht _ => nI_ge ht hj
    have hlo : nI j ≤ nI j := nI_le (Nat.le_refl _) hj
    refine lv_iload_n F.1 F.2.1 dX0_next_8 rfl (lv_at hl 1 rfl) ?_
    refine lv_istore_n (lv' := [(2, .int _), (0, .ref _), (1, .int _)]) F.1 F.2.1 dX0_next_9 rfl hl (by decide) rfl (fun ls hl => ?_)
    exact loop 257 _ _ _ _ (by omega) hj hlo hst hX (lv_sub hl [1, 2, 0] rfl)
  · obtain ⟨j, hj⟩ : ∃ j, j = 0 := ⟨_, rfl⟩
    have hst : ∀ t, t < 0 → T t = true → ¬ k ≤ nI t := fun t ht _ => by omega
    have hlo : k ≤ nI 0 := by rw [nI_0]; grind
    have hj : (0 : Nat) < 2 ^ 31 := by omega
    refine lv_iconst (v := nI 0) F.1 F.2.1 dX0_next_4 (by decide +kernel) ?_
    refine lv_goto (tgt := 9) F.1 F.2.1 dX0_next_5 (by decide) ?_
    refine lv_istore_n (lv' := [(2, .int _), (0, .ref _), (1, .int _)]) F.1 F.2.1 dX0_next_9 rfl hl (by decide) rfl (fun ls hl => ?_)
    exact loop 257 _ _ _ _ (by omega) hj hlo hst hX (lv_sub hl [1, 2, 0] rfl)
set_option maxHeartbeats 4000000 in
set_option maxRecDepth 100000 in
/-- growth(k) -/
theorem m_X0_growth (l : Launch) (D : va_G) (h : Nat → Nat) (cs : Nat → ClassId) {dp bc kc : Nat} {di de lo ke : Nat → Nat} {us : Nat → Bool} {va : Nat → Int32} {k : Int32} {T : Nat → Bool} {V : Nat → Int32} (hI : sI (dp, bc, kc, di, us, de, lo, ke, va) T V) : cI l yX0_growth cX0_growth 4 (some .int) ({ frames := 4, cells := 0, slots := 0, locals := 96 } : Room) D (sdT cs) (sdW h cs (dp, bc, kc, di, us, de, lo, ke, va)) [.ref (h 0), .int k] (sdW h cs) (fun (r : Int32) (u : SD) => (kB k = false ∧ r = -1 ∧ u = (dp, bc, kc, di, us, de, lo, ke, va)) ∨ ∃ j, j < 256 ∧ k = nI j ∧ r = nI (bk (va_up T j true)) - nI (bk T) ∧ sI u T V) := by
  refine c_int (own := RX0) (by decide) rfl (Nat.le_of_ble_eq_true rfl) ?_
  intro p e s m below meth c A Q ls R args hRm F hend hX hl
  have hl : lv_has ls 4 [(0, .ref (h 0)), (1, .int k)] := hl
  refine lv_iload_n F.1 F.2.1 dX0_growth_0 rfl (lv_at hl 1 rfl) ?_
  refine k_X0_isKey F  hX ⟨by rw [hRm]; decide, by rw [hRm]; decide⟩ ⟨Nat.zero_le _, Nat.zero_le _⟩ hl.1 (Nat.le_of_ble_eq_true rfl) dX0_growth_1 (fun H locs hX => ?_)
  refine nv_ifB_ne (tgt := 9) F dX0_growth_4 (by decide) (fun c4 => ?_) (fun c4 => ?_)
  · obtain ⟨j, hj, rfl⟩ := kB_of c4
    refine lv_aload_n F.1 F.2.1 dX0_growth_9 rfl (lv_at hl 0 rfl) ?_
    refine lv_iload_n F.1 F.2.1 dX0_growth_10 rfl (lv_at hl 1 rfl) ?_
    refine k_X0_has F hI hX ⟨by rw [hRm]; decide, by rw [hRm]; decide⟩ ⟨Nat.zero_le _, Nat.zero_le _⟩ hl.1 (Nat.le_of_ble_eq_true rfl) dX0_growth_11 (fun H locs hX => ?_)
    refine nv_ifB_eq (tgt := 19) F dX0_growth_14 (by decide) (fun c14 => ?_) (fun c14 => ?_)
    · rw [hasB_nI hj] at c14
      refine lv_aload_n F.1 F.2.1 dX0_growth_19 rfl (lv_at hl 0 rfl) ?_
      refine g_sd_bc F hX dX0_growth_20 ?_
      refine lv_istore_n (lv' := [(2, .int _), (0, .ref _), (1, .int _)]) F.1 F.2.1 dX0_growth_23 rfl hl (by decide) rfl (fun ls hl => ?_)
      refine lv_aload_n F.1 F.2.1 dX0_growth_24 rfl (lv_at hl 1 rfl) ?_
      refine lv_iload_n F.1 F.2.1 dX0_growth_25 rfl (lv_at hl 2 rfl) ?_
      refine lv_iconst (v := 0) F.1 F.2.1 dX0_growth_26 (by decide +kernel) ?_
      refine k_X0_insert F hI hj c14 hX ⟨by rw [hRm]; decide, by rw [hRm]; decide⟩ ⟨Nat.zero_le _, Nat.zero_le _⟩ hl.1 (Nat.le_of_ble_eq_true rfl) dX0_growth_27 (fun u H locs hp hX => ?_)
      obtain ⟨dp1, bc1, kc1, di1, us1, de1, lo1, ke1, va1⟩ := u
      refine lv_aload_n F.1 F.2.1 dX0_growth_30 rfl (lv_at hl 1 rfl) ?_
      refine g_sd_bc F hX dX0_growth_31 ?_
      refine lv_istore_n (lv' := [(3, .int _), (2, .int _), (0, .ref _), (1, .int _)]) F.1 F.2.1 dX0_growth_34 rfl hl (by decide) rfl (fun ls hl => ?_)
      refine lv_aload_n F.1 F.2.1 dX0_growth_35 rfl (lv_at hl 2 rfl) ?_
      refine lv_iload_n F.1 F.2.1 dX0_growth_36 rfl (lv_at hl 3 rfl) ?_
      refine k_X0_remove F hp hX ⟨by rw [hRm]; decide, by rw [hRm]; decide⟩ ⟨Nat.zero_le _, Nat.zero_le _⟩ hl.1 (Nat.le_of_ble_eq_true rfl) dX0_growth_37 (fun r u H locs hp2 hX => ?_)
      rcases hp2 with ⟨q, -, -⟩ | ⟨j2, hj2, q1, -, -, hp2⟩
      · rw [hasB_nI hj, va_up_self] at q
        cases q
      obtain rfl := (nI_eq (by omega) (by omega)).mp q1
      rw [bx_uu, up_id c14] at hp2
      obtain ⟨dp2, bc2, kc2, di2, us2, de2, lo2, ke2, va2⟩ := u
      have hp2 := sI_V (V' := V) hp2 (fun t ht => va_up_ne _ _ (fun z => by rw [z, c14] at ht; cases ht))
      refine lv_pop F.1 F.2.1 dX0_growth_40 rfl ?_
      refine lv_iload_n F.1 F.2.1 dX0_growth_41 rfl (lv_at hl 0 rfl) ?_
      refine lv_iload_n F.1 F.2.1 dX0_growth_42 rfl (lv_at hl 1 rfl) ?_
      refine lv_isub F.1 F.2.1 dX0_growth_43 ?_
      exact hend _ _ _ _ _ _ (Or.inr ⟨j, hj, rfl, by rw [sI_bk hp, sI_bk hI], hp2⟩) hX dX0_growth_44
    · rw [hasB_nI hj] at c14
      refine lv_iconst (v := 0) F.1 F.2.1 dX0_growth_17 (by decide +kernel) ?_
      exact hend _ _ _ _ _ _ (Or.inr ⟨j, hj, rfl, by rw [up_id c14, Int32.sub_self], hI⟩) hX dX0_growth_18
  · refine lv_iconst (v := -1) F.1 F.2.1 dX0_growth_7 (by decide +kernel) ?_
    exact hend _ _ _ _ _ _ (Or.inl ⟨c4, rfl, rfl⟩) hX dX0_growth_8
end
section
/-! calls that see one of two worlds side by side -/
theorem ap_l {α : Type} {a b : List α} {k : Nat} {q : α} (h : a[k]? = some q) : (a ++ b)[k]? = some q := by
  rw [List.getElem?_append_left (List.getElem?_eq_some_iff.mp h).1]
  exact h
theorem ap_r {α : Type} {a b : List α} {k : Nat} {q : α} (h : b[k]? = some q) : (a ++ b)[a.length + k]? = some q := by
  rw [List.getElem?_append_right (Nat.le_add_right _ _), Nat.add_sub_cancel_left]
  exact h
section ROWS_P
variable {p : Program} {l : Launch} {e : Env} {R : Room} {s : State} {m : MethodId} {args : Array Value} {below : List Frame} {meth : Method} {c : Code} {H : Heap} {locs : List Loc} {cells slots : Nat} {Q : State → Prop}
variable {cc : ByteArray} {pc : Nat} {ls : Array Slot} {rest : List Value} {nL : Nat} {own : String} {D : va_G} {ta tb : List (ClassId × FieldType)} {A : Nat → Prop} {wa wb : va_W}
variable {y : MethodName} {bytes : ByteArray} {maxL index : Nat} {C : String} {ret : Option FieldType} {rm : Room} {As : List Value} {b : Nat} {S : Type} {wf : S → va_W}
theorem wX_l (hX : wX D (ta ++ tb) A s (wa ++ wb) H locs) : wX D ta A s wa H locs :=
  ⟨⟨hX.1.1, fun k q h => hX.1.2 k q (ap_l h)⟩, fun k q h => hX.2.1 k q (ap_l h), ⟨fun i j x z h1 h2 => hX.2.2.1.1 i j x z (ap_l h1) (ap_l h2), fun k q h => hX.2.2.1.2 k q (ap_l h)⟩, hX.2.2.2⟩
theorem wX_r (hX : wX D (ta ++ tb) A s (wa ++ wb) H locs) : wX D tb A s wb H locs :=
  ⟨⟨hX.1.1, fun k q h => hX.1.2 _ q (ap_r h)⟩, fun k q h => hX.2.1 _ q (ap_r h), ⟨fun i j x z h1 h2 h3 => by have := hX.2.2.1.1 _ _ x z (ap_r h1) (ap_r h2) h3; omega, fun k q h => hX.2.2.1.2 _ q (ap_r h)⟩, hX.2.2.2⟩
theorem wX_ne (hX : wX D (ta ++ tb) A s (wa ++ wb) H locs) {i j : Nat} {x z : Nat × va_E} (h1 : wa[i]? = some x) (h2 : wb[j]? = some z) : x.1 ≠ z.1 := fun q => by
  have h3 := hX.2.2.1.1 _ _ x z (ap_l h1) (ap_r h2) q
  have h4 := (List.getElem?_eq_some_iff.mp h1).1
  omega
/-- behind a call that saw the left world -/
theorem wX_backL {w1 : va_W} {t : State} {H1 : Heap} {locs1 : List Loc} (hX : wX D (ta ++ tb) A s (wa ++ wb) H locs) (ht : t.heap = H1) (hvm : s.vm.Alike t.vm) (hB : cW D ta (va_A wa H.size) w1 t) (hk : ∀ q : Nat, q < H.size → ¬ va_A wa H.size q → H1[q]? = H[q]?) (hS : va_S A s.heap H1 locs1) : wX D (ta ++ tb) A s (w1 ++ wb) H1 locs1 := by
  have hb := wX_behind (wX_l hX) ht hvm hB hS
  have hr := wX_r hX
  have hout : ∀ (k : Nat) (q : Nat × va_E), wb[k]? = some q → q.1 < H.size ∧ ¬ va_A wa H.size q.1 := fun k q hq => by
    have hl := (hr.2.1 k q hq).lt
    refine ⟨hl, fun z => ?_⟩
    rcases z with ⟨k2, e2, z⟩ | z
    · exact wX_ne hX z hq rfl
    · omega
  refine ⟨hX.1, va_P.app hb.2.1 (hr.2.1.kept (fun k q hq => hk q.1 (hout k q hq).1 (hout k q hq).2)), va_D.app hb.2.2.1 hr.2.2.1 (fun i j x z h1 h2 h3 => (hout j z h2).2 ?_), hS, hX.2.2.2.2⟩
  rw [← h3]
  exact hB.2.2.2 i x h1
theorem wX_backR {w1 : va_W} {t : State} {H1 : Heap} {locs1 : List Loc} (hX : wX D (ta ++ tb) A s (wa ++ wb) H locs) (ht : t.heap = H1) (hvm : s.vm.Alike t.vm) (hB : cW D tb (va_A wb H.size) w1 t) (hk : ∀ q : Nat, q < H.size → ¬ va_A wb H.size q → H1[q]? = H[q]?) (hS : va_S A s.heap H1 locs1) : wX D (ta ++ tb) A s (wa ++ w1) H1 locs1 := by
  have hb := wX_behind (wX_r hX) ht hvm hB hS
  have hl := wX_l hX
  have hout : ∀ (k : Nat) (q : Nat × va_E), wa[k]? = some q → q.1 < H.size ∧ ¬ va_A wb H.size q.1 := fun k q hq => by
    have hlt := (hl.2.1 k q hq).lt
    refine ⟨hlt, fun z => ?_⟩
    rcases z with ⟨k2, e2, z⟩ | z
    · exact wX_ne hX hq z rfl
    · omega
  refine ⟨hX.1, va_P.app (hl.2.1.kept (fun k q hq => hk q.1 (hout k q hq).1 (hout k q hq).2)) hb.2.1, va_D.app hl.2.2.1 hb.2.2.1 (fun i j x z h1 h2 h3 => (hout i x h1).2 ?_), hS, hX.2.2.2.2⟩
  rw [h3]
  exact hB.2.2.2 j z h2
set_option maxHeartbeats 1000000 in
theorem c_calliL {post : Int32 → S → Prop} (F : CallFix p m c cc nL s args lw_all own) (hM : cI l y bytes maxL ret rm D ta wa (.ref b :: As) wf post) (w1 : Cond.methodLink own index y ∈ lw_all) (w2 : Cond.instanceMethod y ∈ lw_all) (w3 : Cond.selects C y y ∈ lw_all) (w4 : Cond.initialized C ∈ lw_all) (w5 : Cond.code y bytes maxL ret ∈ lw_all) {n : Nat} (hn : As.length = n) (hd : y.cls = C ∧ y.cls ≠ "java/lang/invoke/MethodHandle" ∧ y.cls ≠ "java/lang/invoke/VarHandle" ∧ (parseMethodDescriptor y.desc).map (fun d => d.parameters.length) = some n) (hR : rm.frames + 1 ≤ R.frames ∧ 8 + (maxL + 11) + rm.locals ≤ R.locals) (hrc : rm.cells = 0) (hrs : rm.slots = 0) (hX : wX D (ta ++ tb) A s (wa ++ wb) H locs) {ci : Nat} {fs : List Value} {qc : vw_C} (hc : vwCl[ci]? = some qc) (hqc : qc.1 = C) (he : wa[0]? = some (b, .inr (ci, fs))) {st0 : List Value} (hst : st0 = As.reverse ++ .ref b :: rest) (hls : ls.size = nL) (hrest : (rest.map fun v => v.category).sum ≤ 8) (hcs : cells ≤ R.cells ∧ slots ≤ R.slots) (hdg : decode cc pc = .ok (.invokevirtual index, 3))
    (kk : ∀ (r : Int32) (u : S) (H1 : Heap) (locs1 : List Loc), post r u → wX D (ta ++ tb) A s (wf u ++ wb) H1 locs1 → W p l e R s m args below meth c H1 locs1 cells slots Q (F0 m (pc + 3) ls (.int r :: rest))) : W p l e R s m args below meth c H locs cells slots Q (F0 m pc ls st0) := by
  have hX0 := wX_l hX
  have hFc := wX_free hX0
  have hrv := va_recv hX0.1 hX0.2.1 hc he
  rw [hqc] at hrv
  refine va_calli (va_runV (As := As) (rest := rest) F (hM H.size) (cwV n F.2.2.2.2 (lw_V w1 w2 w3 w4 w5) rfl hrc hrs hd hR) ⟨cS_blind, hrv, cS_start hX0⟩ rfl hn hls hst (lv_room hrest) hdg hcs) hX.2.2.2.1 (fun q _ h => hFc q h) hFc (fun r u t H1 locs1 ht hvm hw hB hz hk hS => ?_)
  exact kk r u H1 locs1 hw (wX_backL hX ht hvm hB hk hS)
set_option maxHeartbeats 1000000 in
theorem c_calliR {post : Int32 → S → Prop} (F : CallFix p m c cc nL s args lw_all own) (hM : cI l y bytes maxL ret rm D tb wb (.ref b :: As) wf post) (w1 : Cond.methodLink own index y ∈ lw_all) (w2 : Cond.instanceMethod y ∈ lw_all) (w3 : Cond.selects C y y ∈ lw_all) (w4 : Cond.initialized C ∈ lw_all) (w5 : Cond.code y bytes maxL ret ∈ lw_all) {n : Nat} (hn : As.length = n) (hd : y.cls = C ∧ y.cls ≠ "java/lang/invoke/MethodHandle" ∧ y.cls ≠ "java/lang/invoke/VarHandle" ∧ (parseMethodDescriptor y.desc).map (fun d => d.parameters.length) = some n) (hR : rm.frames + 1 ≤ R.frames ∧ 8 + (maxL + 11) + rm.locals ≤ R.locals) (hrc : rm.cells = 0) (hrs : rm.slots = 0) (hX : wX D (ta ++ tb) A s (wa ++ wb) H locs) {ci : Nat} {fs : List Value} {qc : vw_C} (hc : vwCl[ci]? = some qc) (hqc : qc.1 = C) (he : wb[0]? = some (b, .inr (ci, fs))) {st0 : List Value} (hst : st0 = As.reverse ++ .ref b :: rest) (hls : ls.size = nL) (hrest : (rest.map fun v => v.category).sum ≤ 8) (hcs : cells ≤ R.cells ∧ slots ≤ R.slots) (hdg : decode cc pc = .ok (.invokevirtual index, 3))
    (kk : ∀ (r : Int32) (u : S) (H1 : Heap) (locs1 : List Loc), post r u → wX D (ta ++ tb) A s (wa ++ wf u) H1 locs1 → W p l e R s m args below meth c H1 locs1 cells slots Q (F0 m (pc + 3) ls (.int r :: rest))) : W p l e R s m args below meth c H locs cells slots Q (F0 m pc ls st0) := by
  have hX0 := wX_r hX
  have hFc := wX_free hX0
  have hrv := va_recv hX0.1 hX0.2.1 hc he
  rw [hqc] at hrv
  refine va_calli (va_runV (As := As) (rest := rest) F (hM H.size) (cwV n F.2.2.2.2 (lw_V w1 w2 w3 w4 w5) rfl hrc hrs hd hR) ⟨cS_blind, hrv, cS_start hX0⟩ rfl hn hls hst (lv_room hrest) hdg hcs) hX.2.2.2.1 (fun q _ h => hFc q h) hFc (fun r u t H1 locs1 ht hvm hw hB hz hk hS => ?_)
  exact kk r u H1 locs1 hw (wX_backR hX ht hvm hB hk hS)
end ROWS_P
/-- behind a constructor: its world comes beside what stood there -/
theorem wX_grow {s : State} {H : Heap} {locs : List Loc} {D : va_G} {ta tb : List (ClassId × FieldType)} {A : Nat → Prop} {wa wb w1 : va_W} {t : State} {H1 : Heap} {locs1 : List Loc} (hX : wX D ta A s (wa ++ wb) H locs) (ht : t.heap = H1) (hvm : s.vm.Alike t.vm) (hB : cW D tb (va_A wb H.size) w1 t) (hk : ∀ q : Nat, q < H.size → ¬ va_A wb H.size q → H1[q]? = H[q]?) (hS : va_S A s.heap H1 locs1) : wX D (ta ++ tb) A s (wa ++ w1) H1 locs1 := by
  have hX' : wX D (ta ++ []) A s (wa ++ wb) H locs := by
    rw [List.append_nil]
    exact hX
  obtain ⟨-, hr⟩ := wX_backR hX' ht hvm ⟨hB.1, hB.2.1.sub [] rfl, hB.2.2⟩ hk hS
  exact ⟨hX.1.app (va_K.moved hvm.symm hB.2.1), hr⟩
end
section
/-! both sides answer alike -/
theorem cI_mono {l : Launch} {y : MethodName} {cc : ByteArray} {L : Nat} {ret : Option FieldType} {rm : Room} {D : va_G} {tys : List (ClassId × FieldType)} {w : va_W} {av : List Value} {S : Type} {wf : S → va_W} {post post' : Int32 → S → Prop} (h : cI l y cc L ret rm D tys w av wf post) (hp : ∀ r u, post r u → post' r u) : cI l y cc L ret rm D tys w av wf post' := by
  intro sz p e ha hc hk s m args below hf happ hP hK
  obtain ⟨k, o, h1, h2, h3, ⟨⟨r, u, e1, e2, e3⟩, hF⟩, hL⟩ := h sz p e ha hc hk s m args below hf happ hP hK
  exact ⟨k, o, h1, h2, h3, ⟨⟨r, u, e1, hp r u e2, e3⟩, hF⟩, hL⟩
theorem kB_no {j : Nat} (hj : j < 256) (h : kB (nI j) = false) : False := by
  rw [kB_nI hj] at h
  cases h
theorem nI_k {j j' : Nat} (h : j < 256) (h' : j' < 256) (q : nI j = nI j') : j = j' := (nI_eq (by omega) (by omega)).mp q
/-- what is asked of a key: by its bucket's depth -/
def kR (T : Nat → Bool) (k : Int32) (P : Nat → Nat → Int32 → Prop) (r : Int32) : Prop := (kB k = false ∧ r = -1) ∨ ∃ j, j < 256 ∧ k = nI j ∧ ∃ d, iB T j d = true ∧ P j d r
theorem kR_one {T : Nat → Bool} {k : Int32} {P : Nat → Nat → Int32 → Prop} {r r' : Int32} (hP : ∀ j d r r', P j d r → P j d r' → r = r') (h : kR T k P r) (h' : kR T k P r') : r = r' := by
  rcases h with ⟨a1, a2⟩ | ⟨j, a1, rfl, d, a2, a3⟩ <;> rcases h' with ⟨b1, b2⟩ | ⟨j', b1, b0, d', b2, b3⟩
  · rw [a2, b2]
  · rw [b0] at a1
    exact (kB_no b1 a1).elim
  · exact (kB_no a1 b1).elim
  · obtain rfl := nI_k a1 b1 b0
    obtain rfl := iB_one a2 b2
    exact hP _ _ _ _ a3 b3
theorem inR_one {T : Nat → Bool} {j d : Nat} {k r r' : Int32} (h : inR T j d k r) (h' : inR T j d k r') : r = r' := by
  have hlt : ∀ t, t < 256 → cN (iP T j d) t < 2 ^ 31 := fun t ht => by
    have := cN_le (iP T j d) t
    omega
  rcases h with ⟨t, a1, a2, a3, a4⟩ | ⟨a1, a2⟩ <;> rcases h' with ⟨t', b1, b2, b3, b4⟩ | ⟨b1, b2⟩
  · have h1 := (nI_eq (hlt t a1) (hlt t' b1)).mp (a3.trans b3.symm)
    have h2 := cN_memb a2 b2 h1
    rw [a4, b4, h2]
  · exact absurd a3 (b1 t a1 a2)
  · exact absurd b3 (a1 t' b1 b2)
  · rw [a2, b2]
theorem neR_one {T : Nat → Bool} {k r r' : Int32} (h : neR T k r) (h' : neR T k r') : r = r' := by
  rcases h with ⟨t, a1, a2, a3, a4, a5⟩ | ⟨a1, a2⟩ <;> rcases h' with ⟨t', b1, b2, b3, b4, b5⟩ | ⟨b1, b2⟩
  · rcases Nat.lt_trichotomy t t' with q | q | q
    · exact absurd a3 (b4 t q a2)
    · rw [a5, b5, q]
    · exact absurd b3 (a4 t' q b2)
  · exact absurd a3 (b1 t a1 a2)
  · exact absurd b3 (a1 t' b1 b2)
  · rw [a2, b2]
/-- the answers are the same; the class and the reference hold the same keys -/
def agR (r r' : Int32) (u : SD) (u' : MD) : Prop := r = r' ∧ ∃ T V C, u' = (T, V, C) ∧ sI u T V
section AGREE
variable {dp bc kc : Nat} {di de lo ke : Nat → Nat} {us : Nat → Bool} {va : Nat → Int32} {T : Nat → Bool} {V : Nat → Int32} {r r' : Int32} {u : SD} {u' : MD}
theorem ag_same (hI : sI (dp, bc, kc, di, us, de, lo, ke, va) T V) (hr : r = r') (hu : u = (dp, bc, kc, di, us, de, lo, ke, va)) (hu' : ∃ C2, u' = (T, V, C2)) : agR r r' u u' := by
  obtain ⟨C2, rfl⟩ := hu'
  subst hu
  exact ⟨hr, T, V, C2, rfl, hI⟩
theorem ag_put {k v : Int32} (hI : sI (dp, bc, kc, di, us, de, lo, ke, va) T V) (h0 : (kB k = false ∧ r = -1 ∧ u = (dp, bc, kc, di, us, de, lo, ke, va)) ∨ ∃ j, j < 256 ∧ k = nI j ∧ ((T j = false ∧ 40 ≤ cN T 256 ∧ r = -2 ∧ u = (dp, bc, kc, di, us, de, lo, ke, va)) ∨ (¬ (T j = false ∧ 40 ≤ cN T 256) ∧ r = nI (bk (va_up T j true)) ∧ sI u (va_up T j true) (va_up V j v))))
    (h1 : (kB k = false ∧ r' = -1 ∧ ∃ C2, u' = (T, V, C2)) ∨ ∃ j, j < 256 ∧ k = nI j ∧ ((T j = false ∧ 40 ≤ cN T 256 ∧ r' = -2 ∧ ∃ C2, u' = (T, V, C2)) ∨ (¬ (T j = false ∧ 40 ≤ cN T 256) ∧ r' = nI (bk (va_up T j true)) ∧ ∃ C2, u' = (va_up T j true, va_up V j v, C2)))) : agR r r' u u' := by
  rcases h0 with ⟨a1, a2, a3⟩ | ⟨j, a1, rfl, a2⟩ <;> rcases h1 with ⟨b1, b2, b3⟩ | ⟨j', b1, b0, b2⟩
  · exact ag_same hI (by rw [a2, b2]) a3 b3
  · rw [b0] at a1
    exact (kB_no b1 a1).elim
  · exact (kB_no a1 b1).elim
  · obtain rfl := nI_k a1 b1 b0
    rcases a2 with ⟨c1, c2, c3, c4⟩ | ⟨c1, c2, c3⟩ <;> rcases b2 with ⟨d1, d2, d3, d4⟩ | ⟨d1, d2, C2, d3⟩
    · exact ag_same hI (by rw [c3, d3]) c4 d4
    · exact absurd ⟨c1, c2⟩ d1
    · exact absurd ⟨d1, d2⟩ c1
    · exact ⟨by rw [c2, d2], _, _, C2, d3, c3⟩
theorem ag_remove {k : Int32} (hI : sI (dp, bc, kc, di, us, de, lo, ke, va) T V) (h0 : (hasB T k = false ∧ r = -1 ∧ u = (dp, bc, kc, di, us, de, lo, ke, va)) ∨ ∃ j, j < 256 ∧ k = nI j ∧ T j = true ∧ r = nI (bk (va_up T j false)) ∧ sI u (va_up T j false) V)
    (h1 : (hasB T k = false ∧ r' = -1 ∧ ∃ C2, u' = (T, V, C2)) ∨ ∃ j, j < 256 ∧ k = nI j ∧ T j = true ∧ r' = nI (bk (va_up T j false)) ∧ ∃ C2, u' = (va_up T j false, V, C2)) : agR r r' u u' := by
  rcases h0 with ⟨a1, a2, a3⟩ | ⟨j, a1, rfl, a2, a3, a4⟩ <;> rcases h1 with ⟨b1, b2, b3⟩ | ⟨j', b1, b0, b2, b3, C2, b4⟩
  · exact ag_same hI (by rw [a2, b2]) a3 b3
  · rw [b0, hasB_nI b1, b2] at a1
    cases a1
  · rw [hasB_nI a1, a2] at b1
    cases b1
  · obtain rfl := nI_k a1 b1 b0
    exact ⟨by rw [a3, b3], _, _, C2, b4, a4⟩
theorem ag_has {k : Int32} (hI : sI (dp, bc, kc, di, us, de, lo, ke, va) T V) {C : Nat → Nat} (h0 : ∃ z : Bool, r = nI z.toNat ∧ u = (dp, bc, kc, di, us, de, lo, ke, va) ∧ z = hasB T k) (h1 : ∃ z : Bool, r' = nI z.toNat ∧ u' = (T, V, C) ∧ z = hasB T k) : agR r r' u u' := by
  obtain ⟨z, rfl, h2, rfl⟩ := h0
  obtain ⟨z', rfl, h3, rfl⟩ := h1
  exact ag_same hI rfl h2 ⟨C, h3⟩
theorem ag_get {k : Int32} (hI : sI (dp, bc, kc, di, us, de, lo, ke, va) T V) {C : Nat → Nat} (h0 : u = (dp, bc, kc, di, us, de, lo, ke, va) ∧ r = getV T V k) (h1 : u' = (T, V, C) ∧ r' = getV T V k) : agR r r' u u' :=
  ag_same hI (by rw [h0.2, h1.2]) h0.1 ⟨C, h1.1⟩
theorem ag_size (hI : sI (dp, bc, kc, di, us, de, lo, ke, va) T V) {C : Nat → Nat} (h0 : u = (dp, bc, kc, di, us, de, lo, ke, va) ∧ r = nI kc) (h1 : u' = (T, V, C) ∧ r' = nI (cN T 256)) : agR r r' u u' :=
  ag_same hI (by rw [h0.2, h1.2, (sI_kc hI).1]) h0.1 ⟨C, h1.1⟩
theorem ag_buckets (hI : sI (dp, bc, kc, di, us, de, lo, ke, va) T V) (h0 : u = (dp, bc, kc, di, us, de, lo, ke, va) ∧ r = nI bc) (h1 : (∃ C2, u' = (T, V, C2)) ∧ r' = nI (bk T)) : agR r r' u u' :=
  ag_same hI (by rw [h0.2, h1.2, sI_bk hI]) h0.1 h1.1
theorem ag_deepest (hI : sI (dp, bc, kc, di, us, de, lo, ke, va) T V) (h0 : u = (dp, bc, kc, di, us, de, lo, ke, va) ∧ r = nI (mxU us de 64)) (h1 : (∃ C2, u' = (T, V, C2)) ∧ r' = nI (mxD T 9)) : agR r r' u u' := by
  have hB := sI_iB hI
  have hh := id hI
  obtain ⟨h6, hS, -⟩ := hh
  exact ag_same hI (by rw [h0.2, h1.2, mx_eq hS h6 hB]) h0.1 h1.1
/-- what the class answers of a key -/
theorem kR_of {k : Int32} {P : Nat → Nat → Int32 → Prop} (h0 : (kB k = false ∧ r = -1 ∧ u = (dp, bc, kc, di, us, de, lo, ke, va)) ∨ ∃ j, j < 256 ∧ k = nI j ∧ u = (dp, bc, kc, di, us, de, lo, ke, va) ∧ ∃ d, iB T j d = true ∧ P j d r) : kR T k P r ∧ u = (dp, bc, kc, di, us, de, lo, ke, va) := by
  rcases h0 with ⟨a1, a2, a3⟩ | ⟨j, a1, a2, a3, a4⟩
  · exact ⟨Or.inl ⟨a1, a2⟩, a3⟩
  · exact ⟨Or.inr ⟨j, a1, a2, a4⟩, a3⟩
theorem ag_kR {k : Int32} {P : Nat → Nat → Int32 → Prop} (hP : ∀ j d r r', P j d r → P j d r' → r = r') (hI : sI (dp, bc, kc, di, us, de, lo, ke, va) T V) (h0 : (kB k = false ∧ r = -1 ∧ u = (dp, bc, kc, di, us, de, lo, ke, va)) ∨ ∃ j, j < 256 ∧ k = nI j ∧ u = (dp, bc, kc, di, us, de, lo, ke, va) ∧ ∃ d, iB T j d = true ∧ P j d r) (h1 : (∃ C2, u' = (T, V, C2)) ∧ kR T k P r') : agR r r' u u' := by
  obtain ⟨a1, a2⟩ := kR_of h0
  exact ag_same hI (kR_one hP a1 h1.2) a2 h1.1
theorem ag_depthOf {k : Int32} (hI : sI (dp, bc, kc, di, us, de, lo, ke, va) T V) (h0 : (kB k = false ∧ r = -1 ∧ u = (dp, bc, kc, di, us, de, lo, ke, va)) ∨ ∃ j, j < 256 ∧ k = nI j ∧ u = (dp, bc, kc, di, us, de, lo, ke, va) ∧ ∃ d, iB T j d = true ∧ r = nI (d)) (h1 : (∃ C2, u' = (T, V, C2)) ∧ kR T k (fun _ d r => r = nI d) r') : agR r r' u u' :=
  ag_kR (P := fun _ d r => r = nI d) (fun _ _ _ _ a b => a.trans b.symm) hI h0 h1
theorem ag_load {k : Int32} (hI : sI (dp, bc, kc, di, us, de, lo, ke, va) T V) (h0 : (kB k = false ∧ r = -1 ∧ u = (dp, bc, kc, di, us, de, lo, ke, va)) ∨ ∃ j, j < 256 ∧ k = nI j ∧ u = (dp, bc, kc, di, us, de, lo, ke, va) ∧ ∃ d, iB T j d = true ∧ r = nI (ct T j d)) (h1 : (∃ C2, u' = (T, V, C2)) ∧ kR T k (fun j d r => r = nI (ct T j d)) r') : agR r r' u u' :=
  ag_kR (P := fun j d r => r = nI (ct T j d)) (fun _ _ _ _ a b => a.trans b.symm) hI h0 h1
theorem ag_inBucket {k k2 : Int32} (hI : sI (dp, bc, kc, di, us, de, lo, ke, va) T V) (h0 : (kB k = false ∧ r = -1 ∧ u = (dp, bc, kc, di, us, de, lo, ke, va)) ∨ ∃ j, j < 256 ∧ k = nI j ∧ u = (dp, bc, kc, di, us, de, lo, ke, va) ∧ ∃ d, iB T j d = true ∧ inR T j d k2 r) (h1 : (∃ C2, u' = (T, V, C2)) ∧ kR T k (fun j d r => inR T j d k2 r) r') : agR r r' u u' :=
  ag_kR (P := fun j d r => inR T j d k2 r) (fun _ _ _ _ a b => inR_one a b) hI h0 h1
/-- together: as an answer of 0 and 1 -/
def toR (T : Nat → Bool) (k k2 : Int32) (z : Bool) : Prop := (kB k = false ∧ z = false) ∨ ∃ j, j < 256 ∧ k = nI j ∧ ∃ d, iB T j d = true ∧ z = (kB k2 && (k2.toNatClampNeg % 2 ^ d == j % 2 ^ d))
theorem toR_one {k k2 : Int32} {z z' : Bool} (h : toR T k k2 z) (h' : toR T k k2 z') : z = z' := by
  rcases h with ⟨a1, a2⟩ | ⟨j, a1, rfl, d, a2, a3⟩ <;> rcases h' with ⟨b1, b2⟩ | ⟨j', b1, b0, d', b2, b3⟩
  · rw [a2, b2]
  · rw [b0] at a1
    exact (kB_no b1 a1).elim
  · exact (kB_no a1 b1).elim
  · obtain rfl := nI_k a1 b1 b0
    obtain rfl := iB_one a2 b2
    rw [a3, b3]
theorem ag_together {k k2 : Int32} (hI : sI (dp, bc, kc, di, us, de, lo, ke, va) T V) (h0 : ∃ z : Bool, r = nI z.toNat ∧ u = (dp, bc, kc, di, us, de, lo, ke, va) ∧ ((kB k = false ∧ z = false) ∨ ∃ j, j < 256 ∧ k = nI j ∧ ∃ d, iB T j d = true ∧ z = (kB k2 && (k2.toNatClampNeg % 2 ^ d == j % 2 ^ d)))) (h1 : ∃ z : Bool, r' = nI z.toNat ∧ (∃ C2, u' = (T, V, C2)) ∧ toR T k k2 z) : agR r r' u u' := by
  obtain ⟨z, rfl, h2, h3⟩ := h0
  obtain ⟨z', rfl, h4, h5⟩ := h1
  exact ag_same hI (by rw [toR_one h3 h5]) h2 h4
theorem ag_next {k : Int32} (hI : sI (dp, bc, kc, di, us, de, lo, ke, va) T V) {C : Nat → Nat} (h0 : u = (dp, bc, kc, di, us, de, lo, ke, va) ∧ neR T k r) (h1 : u' = (T, V, C) ∧ neR T k r') : agR r r' u u' :=
  ag_same hI (neR_one h0.2 h1.2) h0.1 ⟨C, h1.1⟩
theorem ag_growth {k : Int32} (hI : sI (dp, bc, kc, di, us, de, lo, ke, va) T V) (h0 : (kB k = false ∧ r = -1 ∧ u = (dp, bc, kc, di, us, de, lo, ke, va)) ∨ ∃ j, j < 256 ∧ k = nI j ∧ r = nI (bk (va_up T j true)) - nI (bk T) ∧ sI u T V) (h1 : (kB k = false ∧ r' = -1 ∧ ∃ C2, u' = (T, V, C2)) ∨ ∃ j, j < 256 ∧ k = nI j ∧ r' = nI (bk (va_up T j true)) - nI (bk T) ∧ ∃ C2, u' = (T, V, C2)) : agR r r' u u' := by
  rcases h0 with ⟨a1, a2, a3⟩ | ⟨j, a1, rfl, a2, a3⟩ <;> rcases h1 with ⟨b1, b2, b3⟩ | ⟨j', b1, b0, b2, C2, b3⟩
  · exact ag_same hI (by rw [a2, b2]) a3 b3
  · rw [b0] at a1
    exact (kB_no b1 a1).elim
  · exact (kB_no a1 b1).elim
  · obtain rfl := nI_k a1 b1 b0
    exact ⟨by rw [a2, b2], _, _, C2, b3, a3⟩
/-- how many buckets of depth d, d any int -/
def oDx (T : Nat → Bool) (d : Int32) : Nat := if kB d = true ∧ d.toNatClampNeg ≤ 8 then oD T d.toNatClampNeg else 0
theorem oDx_nI {j : Nat} (h : j ≤ 8) : oDx T (nI j) = oD T j := by
  unfold oDx
  rw [nI_clamp (by omega), if_pos ⟨kB_nI (by omega), h⟩]
theorem ag_ofDepth {d : Int32} (hI : sI (dp, bc, kc, di, us, de, lo, ke, va) T V) (h0 : u = (dp, bc, kc, di, us, de, lo, ke, va) ∧ r = nI (cN (fun b => us b && decide (nI (de b) = d)) 64)) (h1 : (∃ C2, u' = (T, V, C2)) ∧ r' = nI (oDx T d)) : agR r r' u u' := by
  have hB := sI_iB hI
  have hde := sI_de hI
  have hh := id hI
  obtain ⟨h6, hS, -⟩ := hh
  refine ag_same hI ?_ h0.1 h1.1
  rw [h0.2, h1.2]
  congr 1
  unfold oDx
  by_cases q : kB d = true ∧ d.toNatClampNeg ≤ 8
  · rw [if_pos q]
    obtain ⟨j, hj, rfl⟩ := kB_of q.1
    rw [nI_clamp (by omega)] at q ⊢
    rw [oD_us hS hB]
    refine cN_congr (fun b _ => ?_)
    cases hu : us b with
    | false => rfl
    | true =>
      have := hde b hu
      rw [Bool.true_and, Bool.true_and]
      by_cases z : de b = j
      · rw [z]; simp
      · have h3 : ¬ nI (de b) = nI j := fun y => z ((nI_eq (by omega) (by omega)).mp y)
        simp [z, h3]
  · rw [if_neg q]
    have h3 : ∀ n, cN (fun b => us b && decide (nI (de b) = d)) n = 0 := by
      intro n
      induction n with
      | zero => rfl
      | succ n ih =>
        rw [cN_F, ih]
        cases hu : us n with
        | false => rfl
        | true =>
          have h4 := hde n hu
          rw [Bool.true_and]
          refine decide_eq_false (fun y => q ?_)
          rw [← y, nI_clamp (by omega)]
          exact ⟨kB_nI (by omega), by omega⟩
    exact h3 64
end AGREE
section BOTH
variable (l : Launch) (D : va_G) (h : Nat → Nat) (cs : Nat → ClassId) {T : Nat → Bool} {V : Nat → Int32} {C : Nat → Nat}
theorem n_X1_depthOf {k : Int32} : cI l yX1_depthOf cX1_depthOf 3 (some .int) ({ frames := 2, cells := 0, slots := 0, locals := 45 } : Room) D (mdT cs) (mdW h cs (T, V, C)) [.ref (h 0), .int k] (mdW h cs) (fun (r : Int32) (u : MD) => (∃ C2, u = (T, V, C2)) ∧ kR T k (fun _ d r => r = nI d) r) := by
  cases hk : kB k with
  | false => exact cI_mono (m_X1_depthOfX l D h cs hk) (fun r u q => ⟨q.2, Or.inl ⟨hk, q.1⟩⟩)
  | true =>
    obtain ⟨j, hj, rfl⟩ := kB_of hk
    refine cI_mono (m_X1_depthOf l D h cs hj) (fun r u q => ?_)
    obtain ⟨d, C2, -, q2, q3, q4, -⟩ := q
    exact ⟨⟨C2, q4⟩, Or.inr ⟨j, hj, rfl, d, q2, q3⟩⟩
theorem n_X1_load {k : Int32} : cI l yX1_load cX1_load 3 (some .int) ({ frames := 3, cells := 0, slots := 0, locals := 67 } : Room) D (mdT cs) (mdW h cs (T, V, C)) [.ref (h 0), .int k] (mdW h cs) (fun (r : Int32) (u : MD) => (∃ C2, u = (T, V, C2)) ∧ kR T k (fun j d r => r = nI (ct T j d)) r) := by
  cases hk : kB k with
  | false => exact cI_mono (m_X1_loadX l D h cs hk) (fun r u q => ⟨q.2, Or.inl ⟨hk, q.1⟩⟩)
  | true =>
    obtain ⟨j, hj, rfl⟩ := kB_of hk
    refine cI_mono (m_X1_load l D h cs hj) (fun r u q => ?_)
    obtain ⟨d, C2, -, q2, q3, q4⟩ := q
    exact ⟨⟨C2, q4⟩, Or.inr ⟨j, hj, rfl, d, q2, q3⟩⟩
theorem n_X1_inBucket {k k2 : Int32} : cI l yX1_inBucket cX1_inBucket 6 (some .int) ({ frames := 3, cells := 0, slots := 0, locals := 67 } : Room) D (mdT cs) (mdW h cs (T, V, C)) [.ref (h 0), .int k, .int k2] (mdW h cs) (fun (r : Int32) (u : MD) => (∃ C2, u = (T, V, C2)) ∧ kR T k (fun j d r => inR T j d k2 r) r) := by
  cases hk : kB k with
  | false => exact cI_mono (m_X1_inBucketX l D h cs hk) (fun r u q => ⟨q.2, Or.inl ⟨hk, q.1⟩⟩)
  | true =>
    obtain ⟨j, hj, rfl⟩ := kB_of hk
    refine cI_mono (m_X1_inBucket l D h cs hj) (fun r u q => ?_)
    obtain ⟨d, C2, -, q2, q3, q4⟩ := q
    exact ⟨⟨C2, q4⟩, Or.inr ⟨j, hj, rfl, d, q2, q3⟩⟩
theorem n_X1_together {k k2 : Int32} : cI l yX1_together cX1_together 4 (some .boolean) ({ frames := 3, cells := 0, slots := 0, locals := 67 } : Room) D (mdT cs) (mdW h cs (T, V, C)) [.ref (h 0), .int k, .int k2] (mdW h cs) (fun (r : Int32) (u : MD) => ∃ z : Bool, r = nI z.toNat ∧ (∃ C2, u = (T, V, C2)) ∧ toR T k k2 z) := by
  cases hk : kB k with
  | false =>
    refine cI_mono (m_X1_togetherX l D h cs hk) (fun r u q => ?_)
    obtain ⟨z, q1, q2, q3⟩ := q
    exact ⟨z, q1, q3, Or.inl ⟨hk, q2⟩⟩
  | true =>
    obtain ⟨j, hj, rfl⟩ := kB_of hk
    refine cI_mono (m_X1_together l D h cs hj) (fun r u q => ?_)
    obtain ⟨z, q1, d, C2, -, q2, q3, q4⟩ := q
    exact ⟨z, q1, ⟨C2, q4⟩, Or.inr ⟨j, hj, rfl, d, q2, q3⟩⟩
theorem n_X1_ofDepth {d : Int32} : cI l yX1_ofDepth cX1_ofDepth 4 (some .int) ({ frames := 2, cells := 0, slots := 0, locals := 45 } : Room) D (mdT cs) (mdW h cs (T, V, C)) [.ref (h 0), .int d] (mdW h cs) (fun (r : Int32) (u : MD) => (∃ C2, u = (T, V, C2)) ∧ r = nI (oDx T d)) := by
  by_cases q : kB d = true ∧ d.toNatClampNeg ≤ 8
  · obtain ⟨j, hj, rfl⟩ := kB_of q.1
    rw [nI_clamp (by omega)] at q
    rw [oDx_nI q.2]
    exact m_X1_ofDepth l D h cs q.2
  · rw [show oDx T d = 0 from if_neg q]
    refine m_X1_ofDepthX l D h cs (fun h1 h2 => q ?_)
    obtain ⟨j, hj, rfl⟩ := nI_of h1
    have h3 : j ≤ 8 := by
      rcases Nat.lt_or_ge 8 j with z | z
      · exact absurd (show (8 : Int32) < nI j from nI_lt (a := 8) z hj) h2
      · exact z
    rw [nI_clamp hj]
    exact ⟨kB_nI (by omega), h3⟩
end BOTH
end
section
/-! the constructors -/
def sd0 : SD := (0, 1, 0, fun _ => 0, va_up (fun _ => false) 0 true, fun _ => 0, fun _ => 0, fun _ => 0, fun _ => 0)
def md0 : MD := (fun _ => false, fun _ => 0, fun _ => 0)
abbrev w0X0 (h0 : Nat) : va_W := [(h0, .inr (0, [.int 0, .null, .null, .null, .null, .null, .null, .int 0, .int 0]))]
abbrev w0X1 (h0 : Nat) : va_W := [(h0, .inr (1, [.null, .null, .null]))]
set_option maxHeartbeats 4000000 in
set_option maxRecDepth 100000 in
theorem m_X0_init (l : Launch) (D : va_G) (h0 sz : Nat) : Met l yX0_init (ws_ yX0_init cX0_init 1 none) ({ frames := 1, cells := 6, slots := 909, locals := 12 } : Room) (va_Pc [.ref h0] (cS D [] (w0X0 h0) sz)) (va_Qv (fun u : (Nat → Nat) × (Nat → ClassId) => u.1 0 = h0) (fun u t => cW D (sdT u.2) (va_A (w0X0 h0) sz) (sdW u.1 u.2 sd0) t) (va_A (w0X0 h0) sz)) 6 909 (va_A (w0X0 h0) sz) := by
  refine Met.ofW (cc := cX0_init) (maxL := 1) (ret := none) (by decide) rfl ?_
  intro p e s m args below meth c s₁ B hml hv
  obtain ⟨rfl, hsz, hP, hK, hD0⟩ := hv
  have hx := B.exec
  have hb := B.bytes
  have hr := B.returns
  have hts := atoms_spec (ws := ws_ yX0_init cX0_init 1 none) B.pre
  have hts : ∀ w ∈ lw_all, w.before _ s = true := fun w h => hts w (List.mem_cons_of_mem _ h)
  have hown : s.vm.findClass RX0 = some m.cls := findClass_of_methodNamed B.named
  have hlocks := B.notSynchronized
  have hin : meth.name = "<init>" := (name_of_methodNamed B.named B.method).1
  subst hsz
  have hD := hD0.self (sz := s.heap.size)
  generalize hAe : va_A (w0X0 h0) s.heap.size = A at hD ⊢
  have hA : ∀ q : Nat, s.heap.size ≤ q → A q := fun q h => by rw [← hAe]; exact Or.inr h
  have hS : va_S A s.heap s.heap [] := va_S.rf
  have hl := lv_entry ([.ref h0]) (n := 1) (Nat.le_of_ble_eq_true rfl)
  rw [lg_entry_eq]
  generalize (lg_sl ([.ref h0]) ++ List.replicate (1 - (lg_sl ([.ref h0])).length) Slot.unset).toArray = ls at hl ⊢
  have hl : lv_has ls 1 [(0, .ref h0)] := hl
  refine lv_aload_n hx hb dX0_init_0 rfl (lv_at hl 0 rfl) ?_
  refine W.objInit hx hb hown (hts _ q20) (hts _ q21) (hts _ q22) rfl (by rw [hml]; exact hl.1) rfl dX0_init_1 (Nat.le_of_ble_eq_true rfl) (Nat.le_of_ble_eq_true rfl) ?_
  refine W.eq (g2 := F0 m 4 ls []) rfl ?_
  refine lv_aload_n hx hb dX0_init_4 rfl (lv_at hl 0 rfl) ?_
  refine lv_bipush (v := nI 64) hx hb dX0_init_5 (by decide +kernel) ?_
  refine va_newa (atype := .byte) (ty := .byte) (N' := 64) (a0 := (64, .inl (fun _ => nI 0))) hx hb (hts _ q51) rfl hK hP hD hS hA (fun cA => rfl) (by decide +kernel) (by decide +kernel) (by decide) (Nat.le_of_ble_eq_true rfl) (Nat.le_of_ble_eq_true rfl) dX0_init_7 (fun q1 c1 H hK hP hD hS => ?_)
  have hP : va_P D vwCl [(h0, .inr (0, [.int 0, .null, .null, .null, .null, .null, .null, .int 0, .int 0])), (q1, .inl (c1, (64, .inl (fun _ => nI 0))))] H := hP
  have hD : va_D A [(h0, .inr (0, [.int 0, .null, .null, .null, .null, .null, .null, .int 0, .int 0])), (q1, .inl (c1, (64, .inl (fun _ => nI 0))))] := hD
  refine va_putF (D := D) (ci := 0) (v := .ref q1) (ty := .array .byte) (C := RX0) (T := TX0) (N := 9) hx hb hts in_X0 tyX0 tyX0_ok nmX0 hown hK hP hD hS 0 rfl rfl 1 (by decide) (hts _ q24) (fun _ h9 => h9) rfl hin rfl (by decide +kernel) rfl rfl (Nat.le_of_ble_eq_true rfl) dX0_init_9 (fun H locs hP hD hS => ?_)
  have hP : va_P D vwCl [(h0, .inr (0, [.int 0, .ref q1, .null, .null, .null, .null, .null, .int 0, .int 0])), (q1, .inl (c1, (64, .inl (fun _ => nI 0))))] H := hP
  have hD : va_D A [(h0, .inr (0, [.int 0, .ref q1, .null, .null, .null, .null, .null, .int 0, .int 0])), (q1, .inl (c1, (64, .inl (fun _ => nI 0))))] := hD
  refine lv_aload_n hx hb dX0_init_12 rfl (lv_at hl 0 rfl) ?_
  refine lv_bipush (v := nI 65) hx hb dX0_init_13 (by decide +kernel) ?_
  refine va_newa (atype := .boolean) (ty := .boolean) (N' := 65) (a0 := (65, .inl (fun _ => nI 0))) hx hb (hts _ q52) rfl hK hP hD hS hA (fun cA => rfl) (by decide +kernel) (by decide +kernel) (by decide) (Nat.le_of_ble_eq_true rfl) (Nat.le_of_ble_eq_true rfl) dX0_init_15 (fun q2 c2 H hK hP hD hS => ?_)
  have hP : va_P D vwCl [(h0, .inr (0, [.int 0, .ref q1, .null, .null, .null, .null, .null, .int 0, .int 0])), (q1, .inl (c1, (64, .inl (fun _ => nI 0)))), (q2, .inl (c2, (65, .inl (fun _ => nI 0))))] H := hP
  have hD : va_D A [(h0, .inr (0, [.int 0, .ref q1, .null, .null, .null, .null, .null, .int 0, .int 0])), (q1, .inl (c1, (64, .inl (fun _ => nI 0)))), (q2, .inl (c2, (65, .inl (fun _ => nI 0))))] := hD
  refine va_putF (D := D) (ci := 0) (v := .ref q2) (ty := .array .boolean) (C := RX0) (T := TX0) (N := 9) hx hb hts in_X0 tyX0 tyX0_ok nmX0 hown hK hP hD hS 0 rfl rfl 2 (by decide) (hts _ q25) (fun _ h9 => h9) rfl hin rfl (by decide +kernel) rfl rfl (Nat.le_of_ble_eq_true rfl) dX0_init_17 (fun H locs hP hD hS => ?_)
  have hP : va_P D vwCl [(h0, .inr (0, [.int 0, .ref q1, .ref q2, .null, .null, .null, .null, .int 0, .int 0])), (q1, .inl (c1, (64, .inl (fun _ => nI 0)))), (q2, .inl (c2, (65, .inl (fun _ => nI 0))))] H := hP
  have hD : va_D A [(h0, .inr (0, [.int 0, .ref q1, .ref q2, .null, .null, .null, .null, .int 0, .int 0])), (q1, .inl (c1, (64, .inl (fun _ => nI 0)))), (q2, .inl (c2, (65, .inl (fun _ => nI 0))))] := hD
  refine lv_aload_n hx hb dX0_init_20 rfl (lv_at hl 0 rfl) ?_
  refine lv_bipush (v := nI 65) hx hb dX0_init_21 (by decide +kernel) ?_
  refine va_newa (atype := .byte) (ty := .byte) (N' := 65) (a0 := (65, .inl (fun _ => nI 0))) hx hb (hts _ q51) rfl hK hP hD hS hA (fun cA => rfl) (by decide +kernel) (by decide +kernel) (by decide) (Nat.le_of_ble_eq_true rfl) (Nat.le_of_ble_eq_true rfl) dX0_init_23 (fun q3 c3 H hK hP hD hS => ?_)
  have hP : va_P D vwCl [(h0, .inr (0, [.int 0, .ref q1, .ref q2, .null, .null, .null, .null, .int 0, .int 0])), (q1, .inl (c1, (64, .inl (fun _ => nI 0)))), (q2, .inl (c2, (65, .inl (fun _ => nI 0)))), (q3, .inl (c3, (65, .inl (fun _ => nI 0))))] H := hP
  have hD : va_D A [(h0, .inr (0, [.int 0, .ref q1, .ref q2, .null, .null, .null, .null, .int 0, .int 0])), (q1, .inl (c1, (64, .inl (fun _ => nI 0)))), (q2, .inl (c2, (65, .inl (fun _ => nI 0)))), (q3, .inl (c3, (65, .inl (fun _ => nI 0))))] := hD
  refine va_putF (D := D) (ci := 0) (v := .ref q3) (ty := .array .byte) (C := RX0) (T := TX0) (N := 9) hx hb hts in_X0 tyX0 tyX0_ok nmX0 hown hK hP hD hS 0 rfl rfl 3 (by decide) (hts _ q26) (fun _ h9 => h9) rfl hin rfl (by decide +kernel) rfl rfl (Nat.le_of_ble_eq_true rfl) dX0_init_25 (fun H locs hP hD hS => ?_)
  have hP : va_P D vwCl [(h0, .inr (0, [.int 0, .ref q1, .ref q2, .ref q3, .null, .null, .null, .int 0, .int 0])), (q1, .inl (c1, (64, .inl (fun _ => nI 0)))), (q2, .inl (c2, (65, .inl (fun _ => nI 0)))), (q3, .inl (c3, (65, .inl (fun _ => nI 0))))] H := hP
  have hD : va_D A [(h0, .inr (0, [.int 0, .ref q1, .ref q2, .ref q3, .null, .null, .null, .int 0, .int 0])), (q1, .inl (c1, (64, .inl (fun _ => nI 0)))), (q2, .inl (c2, (65, .inl (fun _ => nI 0)))), (q3, .inl (c3, (65, .inl (fun _ => nI 0))))] := hD
  refine lv_aload_n hx hb dX0_init_28 rfl (lv_at hl 0 rfl) ?_
  refine lv_bipush (v := nI 65) hx hb dX0_init_29 (by decide +kernel) ?_
  refine va_newa (atype := .byte) (ty := .byte) (N' := 65) (a0 := (65, .inl (fun _ => nI 0))) hx hb (hts _ q51) rfl hK hP hD hS hA (fun cA => rfl) (by decide +kernel) (by decide +kernel) (by decide) (Nat.le_of_ble_eq_true rfl) (Nat.le_of_ble_eq_true rfl) dX0_init_31 (fun q4 c4 H hK hP hD hS => ?_)
  have hP : va_P D vwCl [(h0, .inr (0, [.int 0, .ref q1, .ref q2, .ref q3, .null, .null, .null, .int 0, .int 0])), (q1, .inl (c1, (64, .inl (fun _ => nI 0)))), (q2, .inl (c2, (65, .inl (fun _ => nI 0)))), (q3, .inl (c3, (65, .inl (fun _ => nI 0)))), (q4, .inl (c4, (65, .inl (fun _ => nI 0))))] H := hP
  have hD : va_D A [(h0, .inr (0, [.int 0, .ref q1, .ref q2, .ref q3, .null, .null, .null, .int 0, .int 0])), (q1, .inl (c1, (64, .inl (fun _ => nI 0)))), (q2, .inl (c2, (65, .inl (fun _ => nI 0)))), (q3, .inl (c3, (65, .inl (fun _ => nI 0)))), (q4, .inl (c4, (65, .inl (fun _ => nI 0))))] := hD
  refine va_putF (D := D) (ci := 0) (v := .ref q4) (ty := .array .byte) (C := RX0) (T := TX0) (N := 9) hx hb hts in_X0 tyX0 tyX0_ok nmX0 hown hK hP hD hS 0 rfl rfl 4 (by decide) (hts _ q27) (fun _ h9 => h9) rfl hin rfl (by decide +kernel) rfl rfl (Nat.le_of_ble_eq_true rfl) dX0_init_33 (fun H locs hP hD hS => ?_)
  have hP : va_P D vwCl [(h0, .inr (0, [.int 0, .ref q1, .ref q2, .ref q3, .ref q4, .null, .null, .int 0, .int 0])), (q1, .inl (c1, (64, .inl (fun _ => nI 0)))), (q2, .inl (c2, (65, .inl (fun _ => nI 0)))), (q3, .inl (c3, (65, .inl (fun _ => nI 0)))), (q4, .inl (c4, (65, .inl (fun _ => nI 0))))] H := hP
  have hD : va_D A [(h0, .inr (0, [.int 0, .ref q1, .ref q2, .ref q3, .ref q4, .null, .null, .int 0, .int 0])), (q1, .inl (c1, (64, .inl (fun _ => nI 0)))), (q2, .inl (c2, (65, .inl (fun _ => nI 0)))), (q3, .inl (c3, (65, .inl (fun _ => nI 0)))), (q4, .inl (c4, (65, .inl (fun _ => nI 0))))] := hD
  refine lv_aload_n hx hb dX0_init_36 rfl (lv_at hl 0 rfl) ?_
  refine lv_sipush (v := nI 325) hx hb dX0_init_37 (by decide +kernel) ?_
  refine va_newa (atype := .short) (ty := .short) (N' := 325) (a0 := (325, .inl (fun _ => nI 0))) hx hb (hts _ q53) rfl hK hP hD hS hA (fun cA => rfl) (by decide +kernel) (by decide +kernel) (by decide) (Nat.le_of_ble_eq_true rfl) (Nat.le_of_ble_eq_true rfl) dX0_init_40 (fun q5 c5 H hK hP hD hS => ?_)
  have hP : va_P D vwCl [(h0, .inr (0, [.int 0, .ref q1, .ref q2, .ref q3, .ref q4, .null, .null, .int 0, .int 0])), (q1, .inl (c1, (64, .inl (fun _ => nI 0)))), (q2, .inl (c2, (65, .inl (fun _ => nI 0)))), (q3, .inl (c3, (65, .inl (fun _ => nI 0)))), (q4, .inl (c4, (65, .inl (fun _ => nI 0)))), (q5, .inl (c5, (325, .inl (fun _ => nI 0))))] H := hP
  have hD : va_D A [(h0, .inr (0, [.int 0, .ref q1, .ref q2, .ref q3, .ref q4, .null, .null, .int 0, .int 0])), (q1, .inl (c1, (64, .inl (fun _ => nI 0)))), (q2, .inl (c2, (65, .inl (fun _ => nI 0)))), (q3, .inl (c3, (65, .inl (fun _ => nI 0)))), (q4, .inl (c4, (65, .inl (fun _ => nI 0)))), (q5, .inl (c5, (325, .inl (fun _ => nI 0))))] := hD
  refine va_putF (D := D) (ci := 0) (v := .ref q5) (ty := .array .short) (C := RX0) (T := TX0) (N := 9) hx hb hts in_X0 tyX0 tyX0_ok nmX0 hown hK hP hD hS 0 rfl rfl 5 (by decide) (hts _ q28) (fun _ h9 => h9) rfl hin rfl (by decide +kernel) rfl rfl (Nat.le_of_ble_eq_true rfl) dX0_init_42 (fun H locs hP hD hS => ?_)
  have hP : va_P D vwCl [(h0, .inr (0, [.int 0, .ref q1, .ref q2, .ref q3, .ref q4, .ref q5, .null, .int 0, .int 0])), (q1, .inl (c1, (64, .inl (fun _ => nI 0)))), (q2, .inl (c2, (65, .inl (fun _ => nI 0)))), (q3, .inl (c3, (65, .inl (fun _ => nI 0)))), (q4, .inl (c4, (65, .inl (fun _ => nI 0)))), (q5, .inl (c5, (325, .inl (fun _ => nI 0))))] H := hP
  have hD : va_D A [(h0, .inr (0, [.int 0, .ref q1, .ref q2, .ref q3, .ref q4, .ref q5, .null, .int 0, .int 0])), (q1, .inl (c1, (64, .inl (fun _ => nI 0)))), (q2, .inl (c2, (65, .inl (fun _ => nI 0)))), (q3, .inl (c3, (65, .inl (fun _ => nI 0)))), (q4, .inl (c4, (65, .inl (fun _ => nI 0)))), (q5, .inl (c5, (325, .inl (fun _ => nI 0))))] := hD
  refine lv_aload_n hx hb dX0_init_45 rfl (lv_at hl 0 rfl) ?_
  refine lv_sipush (v := nI 325) hx hb dX0_init_46 (by decide +kernel) ?_
  refine va_newa (atype := .int) (ty := .int) (N' := 325) (a0 := (325, .inl (fun _ => 0))) hx hb (hts _ q54) rfl hK hP hD hS hA (fun cA => rfl) (by decide +kernel) (by decide +kernel) (by decide) (Nat.le_of_ble_eq_true rfl) (Nat.le_of_ble_eq_true rfl) dX0_init_49 (fun q6 c6 H hK hP hD hS => ?_)
  have hP : va_P D vwCl [(h0, .inr (0, [.int 0, .ref q1, .ref q2, .ref q3, .ref q4, .ref q5, .null, .int 0, .int 0])), (q1, .inl (c1, (64, .inl (fun _ => nI 0)))), (q2, .inl (c2, (65, .inl (fun _ => nI 0)))), (q3, .inl (c3, (65, .inl (fun _ => nI 0)))), (q4, .inl (c4, (65, .inl (fun _ => nI 0)))), (q5, .inl (c5, (325, .inl (fun _ => nI 0)))), (q6, .inl (c6, (325, .inl (fun _ => 0))))] H := hP
  have hD : va_D A [(h0, .inr (0, [.int 0, .ref q1, .ref q2, .ref q3, .ref q4, .ref q5, .null, .int 0, .int 0])), (q1, .inl (c1, (64, .inl (fun _ => nI 0)))), (q2, .inl (c2, (65, .inl (fun _ => nI 0)))), (q3, .inl (c3, (65, .inl (fun _ => nI 0)))), (q4, .inl (c4, (65, .inl (fun _ => nI 0)))), (q5, .inl (c5, (325, .inl (fun _ => nI 0)))), (q6, .inl (c6, (325, .inl (fun _ => 0))))] := hD
  refine va_putF (D := D) (ci := 0) (v := .ref q6) (ty := .array .int) (C := RX0) (T := TX0) (N := 9) hx hb hts in_X0 tyX0 tyX0_ok nmX0 hown hK hP hD hS 0 rfl rfl 6 (by decide) (hts _ q29) (fun _ h9 => h9) rfl hin rfl (by decide +kernel) rfl rfl (Nat.le_of_ble_eq_true rfl) dX0_init_51 (fun H locs hP hD hS => ?_)
  have hP : va_P D vwCl [(h0, .inr (0, [.int 0, .ref q1, .ref q2, .ref q3, .ref q4, .ref q5, .ref q6, .int 0, .int 0])), (q1, .inl (c1, (64, .inl (fun _ => nI 0)))), (q2, .inl (c2, (65, .inl (fun _ => nI 0)))), (q3, .inl (c3, (65, .inl (fun _ => nI 0)))), (q4, .inl (c4, (65, .inl (fun _ => nI 0)))), (q5, .inl (c5, (325, .inl (fun _ => nI 0)))), (q6, .inl (c6, (325, .inl (fun _ => 0))))] H := hP
  have hD : va_D A [(h0, .inr (0, [.int 0, .ref q1, .ref q2, .ref q3, .ref q4, .ref q5, .ref q6, .int 0, .int 0])), (q1, .inl (c1, (64, .inl (fun _ => nI 0)))), (q2, .inl (c2, (65, .inl (fun _ => nI 0)))), (q3, .inl (c3, (65, .inl (fun _ => nI 0)))), (q4, .inl (c4, (65, .inl (fun _ => nI 0)))), (q5, .inl (c5, (325, .inl (fun _ => nI 0)))), (q6, .inl (c6, (325, .inl (fun _ => 0))))] := hD
  obtain ⟨h, e0, e1, e2, e3, e4, e5, e6⟩ : ∃ h : Nat → Nat, h 0 = h0 ∧ h 1 = q1 ∧ h 2 = q2 ∧ h 3 = q3 ∧ h 4 = q4 ∧ h 5 = q5 ∧ h 6 = q6 := ⟨fun k => match k with | 0 => h0 | 1 => q1 | 2 => q2 | 3 => q3 | 4 => q4 | 5 => q5 | _ => q6, rfl, rfl, rfl, rfl, rfl, rfl, rfl⟩
  obtain ⟨cs, f1, f2, f3, f4, f5, f6⟩ : ∃ cs : Nat → ClassId, cs 1 = c1 ∧ cs 2 = c2 ∧ cs 3 = c3 ∧ cs 4 = c4 ∧ cs 5 = c5 ∧ cs 6 = c6 := ⟨fun k => match k with | 1 => c1 | 2 => c2 | 3 => c3 | 4 => c4 | 5 => c5 | _ => c6, rfl, rfl, rfl, rfl, rfl, rfl⟩
  subst e0
  subst e1
  subst e2
  subst e3
  subst e4
  subst e5
  subst e6
  subst f1
  subst f2
  subst f3
  subst f4
  subst f5
  subst f6
  have F : CallFix p m c cX0_init 1 s _ lw_all RX0 := ⟨hx, hb, hml, hown, hts⟩
  have hX : wX D (sdT cs) A s (sdW h cs (0, 0, 0, fun _ => 0, fun _ => false, fun _ => 0, fun _ => 0, fun _ => 0, fun _ => 0)) H locs := ⟨hK, hP, hD, hS, hA⟩
  refine lv_aload_n F.1 F.2.1 dX0_init_54 rfl (lv_at hl 0 rfl) ?_
  refine g_sd_us F hX dX0_init_55 ?_
  refine lv_iconst (v := nI 0) F.1 F.2.1 dX0_init_58 (by decide +kernel) ?_
  refine lv_iconst (v := nI 1) F.1 F.2.1 dX0_init_59 (by decide +kernel) ?_
  refine st_sd_us (v := true) F hX (by omega) dX0_init_60 (fun H locs hX => ?_)
  refine lv_aload_n F.1 F.2.1 dX0_init_61 rfl (lv_at hl 0 rfl) ?_
  refine lv_iconst (v := nI 1) F.1 F.2.1 dX0_init_62 (by decide +kernel) ?_
  refine p_sd_bc F hX dX0_init_63 (fun H locs hX => ?_)
  refine W.widen (k := 6) (n := 909) (Nat.le_of_ble_eq_true rfl) (Nat.le_of_ble_eq_true rfl) ?_
  exact W.vret hx hb hr (fun t ht hW => ⟨⟨(h, cs), rfl, rfl, by rw [ht]; exact hX.2.1, va_K.moved hW.alike hX.1, hX.2.2.1⟩, hX.2.2.2.1.F ht⟩) hX.2.2.2.1.2.2 dX0_init_66
set_option maxHeartbeats 4000000 in
set_option maxRecDepth 100000 in
theorem m_X1_init (l : Launch) (D : va_G) (h0 sz : Nat) : Met l yX1_init (ws_ yX1_init cX1_init 1 none) ({ frames := 1, cells := 3, slots := 1023, locals := 12 } : Room) (va_Pc [.ref h0] (cS D [] (w0X1 h0) sz)) (va_Qv (fun u : (Nat → Nat) × (Nat → ClassId) => u.1 0 = h0) (fun u t => cW D (mdT u.2) (va_A (w0X1 h0) sz) (mdW u.1 u.2 md0) t) (va_A (w0X1 h0) sz)) 3 1023 (va_A (w0X1 h0) sz) := by
  refine Met.ofW (cc := cX1_init) (maxL := 1) (ret := none) (by decide) rfl ?_
  intro p e s m args below meth c s₁ B hml hv
  obtain ⟨rfl, hsz, hP, hK, hD0⟩ := hv
  have hx := B.exec
  have hb := B.bytes
  have hr := B.returns
  have hts := atoms_spec (ws := ws_ yX1_init cX1_init 1 none) B.pre
  have hts : ∀ w ∈ lw_all, w.before _ s = true := fun w h => hts w (List.mem_cons_of_mem _ h)
  have hown : s.vm.findClass RX1 = some m.cls := findClass_of_methodNamed B.named
  have hlocks := B.notSynchronized
  have hin : meth.name = "<init>" := (name_of_methodNamed B.named B.method).1
  subst hsz
  have hD := hD0.self (sz := s.heap.size)
  generalize hAe : va_A (w0X1 h0) s.heap.size = A at hD ⊢
  have hA : ∀ q : Nat, s.heap.size ≤ q → A q := fun q h => by rw [← hAe]; exact Or.inr h
  have hS : va_S A s.heap s.heap [] := va_S.rf
  have hl := lv_entry ([.ref h0]) (n := 1) (Nat.le_of_ble_eq_true rfl)
  rw [lg_entry_eq]
  generalize (lg_sl ([.ref h0]) ++ List.replicate (1 - (lg_sl ([.ref h0])).length) Slot.unset).toArray = ls at hl ⊢
  have hl : lv_has ls 1 [(0, .ref h0)] := hl
  refine lv_aload_n hx hb dX1_init_0 rfl (lv_at hl 0 rfl) ?_
  refine W.objInit hx hb hown (hts _ q154) (hts _ q21) (hts _ q22) rfl (by rw [hml]; exact hl.1) rfl dX1_init_1 (Nat.le_of_ble_eq_true rfl) (Nat.le_of_ble_eq_true rfl) ?_
  refine W.eq (g2 := F0 m 4 ls []) rfl ?_
  refine lv_aload_n hx hb dX1_init_4 rfl (lv_at hl 0 rfl) ?_
  refine lv_sipush (v := nI 256) hx hb dX1_init_5 (by decide +kernel) ?_
  refine va_newa (atype := .boolean) (ty := .boolean) (N' := 256) (a0 := (256, .inl (fun _ => nI 0))) hx hb (hts _ q52) rfl hK hP hD hS hA (fun cA => rfl) (by decide +kernel) (by decide +kernel) (by decide) (Nat.le_of_ble_eq_true rfl) (Nat.le_of_ble_eq_true rfl) dX1_init_8 (fun q1 c1 H hK hP hD hS => ?_)
  have hP : va_P D vwCl [(h0, .inr (1, [.null, .null, .null])), (q1, .inl (c1, (256, .inl (fun _ => nI 0))))] H := hP
  have hD : va_D A [(h0, .inr (1, [.null, .null, .null])), (q1, .inl (c1, (256, .inl (fun _ => nI 0))))] := hD
  refine va_put (D := D) (ci := 1) (v := .ref q1) (ty := .array .boolean) (C := RX1) (T := TX1) (N := 3) hx hb hts in_X1 tyX1 tyX1_ok nmX1 hown hK hP hD hS 0 rfl rfl 0 (by decide) (hts _ q155) (fun _ h9 => h9) rfl (by decide +kernel) rfl rfl (Nat.le_of_ble_eq_true rfl) dX1_init_10 (fun H locs hP hD hS => ?_)
  have hP : va_P D vwCl [(h0, .inr (1, [.ref q1, .null, .null])), (q1, .inl (c1, (256, .inl (fun _ => nI 0))))] H := hP
  have hD : va_D A [(h0, .inr (1, [.ref q1, .null, .null])), (q1, .inl (c1, (256, .inl (fun _ => nI 0))))] := hD
  refine lv_aload_n hx hb dX1_init_13 rfl (lv_at hl 0 rfl) ?_
  refine lv_sipush (v := nI 256) hx hb dX1_init_14 (by decide +kernel) ?_
  refine va_newa (atype := .int) (ty := .int) (N' := 256) (a0 := (256, .inl (fun _ => 0))) hx hb (hts _ q54) rfl hK hP hD hS hA (fun cA => rfl) (by decide +kernel) (by decide +kernel) (by decide) (Nat.le_of_ble_eq_true rfl) (Nat.le_of_ble_eq_true rfl) dX1_init_17 (fun q2 c2 H hK hP hD hS => ?_)
  have hP : va_P D vwCl [(h0, .inr (1, [.ref q1, .null, .null])), (q1, .inl (c1, (256, .inl (fun _ => nI 0)))), (q2, .inl (c2, (256, .inl (fun _ => 0))))] H := hP
  have hD : va_D A [(h0, .inr (1, [.ref q1, .null, .null])), (q1, .inl (c1, (256, .inl (fun _ => nI 0)))), (q2, .inl (c2, (256, .inl (fun _ => 0))))] := hD
  refine va_put (D := D) (ci := 1) (v := .ref q2) (ty := .array .int) (C := RX1) (T := TX1) (N := 3) hx hb hts in_X1 tyX1 tyX1_ok nmX1 hown hK hP hD hS 0 rfl rfl 1 (by decide) (hts _ q156) (fun _ h9 => h9) rfl (by decide +kernel) rfl rfl (Nat.le_of_ble_eq_true rfl) dX1_init_19 (fun H locs hP hD hS => ?_)
  have hP : va_P D vwCl [(h0, .inr (1, [.ref q1, .ref q2, .null])), (q1, .inl (c1, (256, .inl (fun _ => nI 0)))), (q2, .inl (c2, (256, .inl (fun _ => 0))))] H := hP
  have hD : va_D A [(h0, .inr (1, [.ref q1, .ref q2, .null])), (q1, .inl (c1, (256, .inl (fun _ => nI 0)))), (q2, .inl (c2, (256, .inl (fun _ => 0))))] := hD
  refine lv_aload_n hx hb dX1_init_22 rfl (lv_at hl 0 rfl) ?_
  refine lv_sipush (v := nI 511) hx hb dX1_init_23 (by decide +kernel) ?_
  refine va_newa (atype := .int) (ty := .int) (N' := 511) (a0 := (511, .inl (fun _ => nI 0))) hx hb (hts _ q54) rfl hK hP hD hS hA (fun cA => rfl) (by decide +kernel) (by decide +kernel) (by decide) (Nat.le_of_ble_eq_true rfl) (Nat.le_of_ble_eq_true rfl) dX1_init_26 (fun q3 c3 H hK hP hD hS => ?_)
  have hP : va_P D vwCl [(h0, .inr (1, [.ref q1, .ref q2, .null])), (q1, .inl (c1, (256, .inl (fun _ => nI 0)))), (q2, .inl (c2, (256, .inl (fun _ => 0)))), (q3, .inl (c3, (511, .inl (fun _ => nI 0))))] H := hP
  have hD : va_D A [(h0, .inr (1, [.ref q1, .ref q2, .null])), (q1, .inl (c1, (256, .inl (fun _ => nI 0)))), (q2, .inl (c2, (256, .inl (fun _ => 0)))), (q3, .inl (c3, (511, .inl (fun _ => nI 0))))] := hD
  refine va_put (D := D) (ci := 1) (v := .ref q3) (ty := .array .int) (C := RX1) (T := TX1) (N := 3) hx hb hts in_X1 tyX1 tyX1_ok nmX1 hown hK hP hD hS 0 rfl rfl 2 (by decide) (hts _ q157) (fun _ h9 => h9) rfl (by decide +kernel) rfl rfl (Nat.le_of_ble_eq_true rfl) dX1_init_28 (fun H locs hP hD hS => ?_)
  have hP : va_P D vwCl [(h0, .inr (1, [.ref q1, .ref q2, .ref q3])), (q1, .inl (c1, (256, .inl (fun _ => nI 0)))), (q2, .inl (c2, (256, .inl (fun _ => 0)))), (q3, .inl (c3, (511, .inl (fun _ => nI 0))))] H := hP
  have hD : va_D A [(h0, .inr (1, [.ref q1, .ref q2, .ref q3])), (q1, .inl (c1, (256, .inl (fun _ => nI 0)))), (q2, .inl (c2, (256, .inl (fun _ => 0)))), (q3, .inl (c3, (511, .inl (fun _ => nI 0))))] := hD
  obtain ⟨h, e0, e1, e2, e3⟩ : ∃ h : Nat → Nat, h 0 = h0 ∧ h 1 = q1 ∧ h 2 = q2 ∧ h 3 = q3 := ⟨fun k => match k with | 0 => h0 | 1 => q1 | 2 => q2 | _ => q3, rfl, rfl, rfl, rfl⟩
  obtain ⟨cs, f1, f2, f3⟩ : ∃ cs : Nat → ClassId, cs 1 = c1 ∧ cs 2 = c2 ∧ cs 3 = c3 := ⟨fun k => match k with | 1 => c1 | 2 => c2 | _ => c3, rfl, rfl, rfl⟩
  subst e0
  subst e1
  subst e2
  subst e3
  subst f1
  subst f2
  subst f3
  have hX : wX D (mdT cs) A s (mdW h cs md0) H locs := ⟨hK, hP, hD, hS, hA⟩
  refine W.widen (k := 3) (n := 1023) (Nat.le_of_ble_eq_true rfl) (Nat.le_of_ble_eq_true rfl) ?_
  exact W.vret hx hb hr (fun t ht hW => ⟨⟨(h, cs), rfl, rfl, by rw [ht]; exact hX.2.1, va_K.moved hW.alike hX.1, hX.2.2.1⟩, hX.2.2.2.1.F ht⟩) hX.2.2.2.1.2.2 dX1_init_31
end
section
/-! the law's cases -/
section CASES
variable {p : Program} {l : Launch} {e : Env} {s : State} {m : MethodId} {args : Array Value} {below : List Frame} {meth : Method} {c : Code} {H : Heap} {locs : List Loc} {Q : State → Prop} {ls : Array Slot} {D : va_G} {A : Nat → Prop} {h1 h2 : Nat → Nat} {cs1 cs2 : Nat → ClassId} {b L i : Nat} {xs : Nat → Int32} {dp bc kc : Nat} {di de lo ke : Nat → Nat} {us : Nat → Bool} {va : Nat → Int32} {T : Nat → Bool} {V : Nat → Int32} {C : Nat → Nat}
set_option maxHeartbeats 4000000 in
set_option maxRecDepth 100000 in
theorem law_put (F : CallFix p m c cL_law 4 s args lw_all "SplitDirectoryLaw") (hXs : va_X b L xs s s.heap) (hbl : b < s.heap.size) (hbA : ¬ A b) (hL : L ≤ 192) (hi : i + 3 ≤ L) (hI : sI (dp, bc, kc, di, us, de, lo, ke, va) T V) (hX : wX D (sdT cs1 ++ mdT cs2) A s (sdW h1 cs1 (dp, bc, kc, di, us, de, lo, ke, va) ++ mdW h2 cs2 (T, V, C)) H locs) (hl : lv_has ls 4 [(0, .ref b), (1, .ref (h1 0)), (2, .ref (h2 0)), (3, .int (nI i))])
    (kk : ∀ (x : SD) (T : Nat → Bool) (V : Nat → Int32) (C : Nat → Nat) (H : Heap) (locs : List Loc), sI x T V → wX D (sdT cs1 ++ mdT cs2) A s (sdW h1 cs1 x ++ mdW h2 cs2 (T, V, C)) H locs → W p l e room_1 s m args below meth c H locs 11 1944 Q (F0 m 426 ls [])) : W p l e room_1 s m args below meth c H locs 11 1944 Q (F0 m 104 ls []) := by
  refine lv_aload_n F.1 F.2.1 dL_law_104 rfl (lv_at hl 1 rfl) ?_
  refine lv_aload_n F.1 F.2.1 dL_law_105 rfl (lv_at hl 0 rfl) ?_
  refine lv_iload_n F.1 F.2.1 dL_law_106 rfl (lv_at hl 3 rfl) ?_
  refine lv_iconst (v := nI 1) F.1 F.2.1 dL_law_107 (by decide +kernel) ?_
  refine nv_iadd F dL_law_108 ?_
  refine va_sld F.1 F.2.1 hXs hbl hbA hX.2.2.2.1 (vp_in_nI (by omega) (by omega)) dL_law_109 ?_
  rw [nI_clamp (n := i + 1) (by omega)]
  refine lv_aload_n F.1 F.2.1 dL_law_110 rfl (lv_at hl 0 rfl) ?_
  refine lv_iload_n F.1 F.2.1 dL_law_111 rfl (lv_at hl 3 rfl) ?_
  refine lv_iconst (v := nI 2) F.1 F.2.1 dL_law_112 (by decide +kernel) ?_
  refine nv_iadd F dL_law_113 ?_
  refine va_sld F.1 F.2.1 hXs hbl hbA hX.2.2.2.1 (vp_in_nI (by omega) (by omega)) dL_law_114 ?_
  rw [nI_clamp (n := i + 2) (by omega)]
  refine c_calliL (C := RX0) (As := [.int (xs (i + 1)), .int (xs (i + 2))]) (rest := []) F (m_X0_put l D h1 cs1 hI) q55 q56 q57 q13 q58 (n := 2) rfl (by decide +kernel) ⟨Nat.le_of_ble_eq_true rfl, Nat.le_of_ble_eq_true rfl⟩ rfl rfl hX (ci := 0) rfl rfl rfl rfl hl.1 (Nat.le_of_ble_eq_true rfl) ⟨Nat.le_of_ble_eq_true rfl, Nat.le_of_ble_eq_true rfl⟩ dL_law_115 (fun r0 u0 H locs hp0 hX => ?_)
  refine lv_aload_n F.1 F.2.1 dL_law_118 rfl (lv_at hl 2 rfl) ?_
  refine lv_aload_n F.1 F.2.1 dL_law_119 rfl (lv_at hl 0 rfl) ?_
  refine lv_iload_n F.1 F.2.1 dL_law_120 rfl (lv_at hl 3 rfl) ?_
  refine lv_iconst (v := nI 1) F.1 F.2.1 dL_law_121 (by decide +kernel) ?_
  refine nv_iadd F dL_law_122 ?_
  refine va_sld F.1 F.2.1 hXs hbl hbA hX.2.2.2.1 (vp_in_nI (by omega) (by omega)) dL_law_123 ?_
  rw [nI_clamp (n := i + 1) (by omega)]
  refine lv_aload_n F.1 F.2.1 dL_law_124 rfl (lv_at hl 0 rfl) ?_
  refine lv_iload_n F.1 F.2.1 dL_law_125 rfl (lv_at hl 3 rfl) ?_
  refine lv_iconst (v := nI 2) F.1 F.2.1 dL_law_126 (by decide +kernel) ?_
  refine nv_iadd F dL_law_127 ?_
  refine va_sld F.1 F.2.1 hXs hbl hbA hX.2.2.2.1 (vp_in_nI (by omega) (by omega)) dL_law_128 ?_
  rw [nI_clamp (n := i + 2) (by omega)]
  refine c_calliR (C := RX1) (As := [.int (xs (i + 1)), .int (xs (i + 2))]) (rest := [.int r0]) F (m_X1_put l D h2 cs2) q165 q166 q167 q14 q168 (n := 2) rfl (by decide +kernel) ⟨Nat.le_of_ble_eq_true rfl, Nat.le_of_ble_eq_true rfl⟩ rfl rfl hX (ci := 1) rfl rfl rfl rfl hl.1 (Nat.le_of_ble_eq_true rfl) ⟨Nat.le_of_ble_eq_true rfl, Nat.le_of_ble_eq_true rfl⟩ dL_law_129 (fun r1 u1 H locs hp1 hX => ?_)
  obtain ⟨hr, T', V', C', rfl, hI'⟩ := ag_put hI hp0 hp1
  exact lv_icmp_eq (tgt := 426) F.1 F.2.1 dL_law_132 (by decide) (fun _ => kk _ _ _ _ _ _ hI' hX) (fun q => absurd hr q)
set_option maxHeartbeats 4000000 in
set_option maxRecDepth 100000 in
theorem law_remove (F : CallFix p m c cL_law 4 s args lw_all "SplitDirectoryLaw") (hXs : va_X b L xs s s.heap) (hbl : b < s.heap.size) (hbA : ¬ A b) (hL : L ≤ 192) (hi : i + 3 ≤ L) (hI : sI (dp, bc, kc, di, us, de, lo, ke, va) T V) (hX : wX D (sdT cs1 ++ mdT cs2) A s (sdW h1 cs1 (dp, bc, kc, di, us, de, lo, ke, va) ++ mdW h2 cs2 (T, V, C)) H locs) (hl : lv_has ls 4 [(0, .ref b), (1, .ref (h1 0)), (2, .ref (h2 0)), (3, .int (nI i))])
    (kk : ∀ (x : SD) (T : Nat → Bool) (V : Nat → Int32) (C : Nat → Nat) (H : Heap) (locs : List Loc), sI x T V → wX D (sdT cs1 ++ mdT cs2) A s (sdW h1 cs1 x ++ mdW h2 cs2 (T, V, C)) H locs → W p l e room_1 s m args below meth c H locs 11 1944 Q (F0 m 426 ls [])) : W p l e room_1 s m args below meth c H locs 11 1944 Q (F0 m 137 ls []) := by
  refine lv_aload_n F.1 F.2.1 dL_law_137 rfl (lv_at hl 1 rfl) ?_
  refine lv_aload_n F.1 F.2.1 dL_law_138 rfl (lv_at hl 0 rfl) ?_
  refine lv_iload_n F.1 F.2.1 dL_law_139 rfl (lv_at hl 3 rfl) ?_
  refine lv_iconst (v := nI 1) F.1 F.2.1 dL_law_140 (by decide +kernel) ?_
  refine nv_iadd F dL_law_141 ?_
  refine va_sld F.1 F.2.1 hXs hbl hbA hX.2.2.2.1 (vp_in_nI (by omega) (by omega)) dL_law_142 ?_
  rw [nI_clamp (n := i + 1) (by omega)]
  refine c_calliL (C := RX0) (As := [.int (xs (i + 1))]) (rest := []) F (m_X0_remove l D h1 cs1 hI) q86 q87 q88 q13 q89 (n := 1) rfl (by decide +kernel) ⟨Nat.le_of_ble_eq_true rfl, Nat.le_of_ble_eq_true rfl⟩ rfl rfl hX (ci := 0) rfl rfl rfl rfl hl.1 (Nat.le_of_ble_eq_true rfl) ⟨Nat.le_of_ble_eq_true rfl, Nat.le_of_ble_eq_true rfl⟩ dL_law_143 (fun r0 u0 H locs hp0 hX => ?_)
  refine lv_aload_n F.1 F.2.1 dL_law_146 rfl (lv_at hl 2 rfl) ?_
  refine lv_aload_n F.1 F.2.1 dL_law_147 rfl (lv_at hl 0 rfl) ?_
  refine lv_iload_n F.1 F.2.1 dL_law_148 rfl (lv_at hl 3 rfl) ?_
  refine lv_iconst (v := nI 1) F.1 F.2.1 dL_law_149 (by decide +kernel) ?_
  refine nv_iadd F dL_law_150 ?_
  refine va_sld F.1 F.2.1 hXs hbl hbA hX.2.2.2.1 (vp_in_nI (by omega) (by omega)) dL_law_151 ?_
  rw [nI_clamp (n := i + 1) (by omega)]
  refine c_calliR (C := RX1) (As := [.int (xs (i + 1))]) (rest := [.int r0]) F (m_X1_remove l D h2 cs2) q197 q198 q199 q14 q200 (n := 1) rfl (by decide +kernel) ⟨Nat.le_of_ble_eq_true rfl, Nat.le_of_ble_eq_true rfl⟩ rfl rfl hX (ci := 1) rfl rfl rfl rfl hl.1 (Nat.le_of_ble_eq_true rfl) ⟨Nat.le_of_ble_eq_true rfl, Nat.le_of_ble_eq_true rfl⟩ dL_law_152 (fun r1 u1 H locs hp1 hX => ?_)
  obtain ⟨hr, T', V', C', rfl, hI'⟩ := ag_remove hI hp0 hp1
  exact lv_icmp_eq (tgt := 426) F.1 F.2.1 dL_law_155 (by decide) (fun _ => kk _ _ _ _ _ _ hI' hX) (fun q => absurd hr q)
set_option maxHeartbeats 4000000 in
set_option maxRecDepth 100000 in
theorem law_has (F : CallFix p m c cL_law 4 s args lw_all "SplitDirectoryLaw") (hXs : va_X b L xs s s.heap) (hbl : b < s.heap.size) (hbA : ¬ A b) (hL : L ≤ 192) (hi : i + 3 ≤ L) (hI : sI (dp, bc, kc, di, us, de, lo, ke, va) T V) (hX : wX D (sdT cs1 ++ mdT cs2) A s (sdW h1 cs1 (dp, bc, kc, di, us, de, lo, ke, va) ++ mdW h2 cs2 (T, V, C)) H locs) (hl : lv_has ls 4 [(0, .ref b), (1, .ref (h1 0)), (2, .ref (h2 0)), (3, .int (nI i))])
    (kk : ∀ (x : SD) (T : Nat → Bool) (V : Nat → Int32) (C : Nat → Nat) (H : Heap) (locs : List Loc), sI x T V → wX D (sdT cs1 ++ mdT cs2) A s (sdW h1 cs1 x ++ mdW h2 cs2 (T, V, C)) H locs → W p l e room_1 s m args below meth c H locs 11 1944 Q (F0 m 426 ls [])) : W p l e room_1 s m args below meth c H locs 11 1944 Q (F0 m 160 ls []) := by
  refine lv_aload_n F.1 F.2.1 dL_law_160 rfl (lv_at hl 1 rfl) ?_
  refine lv_aload_n F.1 F.2.1 dL_law_161 rfl (lv_at hl 0 rfl) ?_
  refine lv_iload_n F.1 F.2.1 dL_law_162 rfl (lv_at hl 3 rfl) ?_
  refine lv_iconst (v := nI 1) F.1 F.2.1 dL_law_163 (by decide +kernel) ?_
  refine nv_iadd F dL_law_164 ?_
  refine va_sld F.1 F.2.1 hXs hbl hbA hX.2.2.2.1 (vp_in_nI (by omega) (by omega)) dL_law_165 ?_
  rw [nI_clamp (n := i + 1) (by omega)]
  refine c_calliL (C := RX0) (As := [.int (xs (i + 1))]) (rest := []) F (m_X0_has l D h1 cs1 hI) q106 q91 q92 q13 q93 (n := 1) rfl (by decide +kernel) ⟨Nat.le_of_ble_eq_true rfl, Nat.le_of_ble_eq_true rfl⟩ rfl rfl hX (ci := 0) rfl rfl rfl rfl hl.1 (Nat.le_of_ble_eq_true rfl) ⟨Nat.le_of_ble_eq_true rfl, Nat.le_of_ble_eq_true rfl⟩ dL_law_166 (fun r0 u0 H locs hp0 hX => ?_)
  refine lv_aload_n F.1 F.2.1 dL_law_169 rfl (lv_at hl 2 rfl) ?_
  refine lv_aload_n F.1 F.2.1 dL_law_170 rfl (lv_at hl 0 rfl) ?_
  refine lv_iload_n F.1 F.2.1 dL_law_171 rfl (lv_at hl 3 rfl) ?_
  refine lv_iconst (v := nI 1) F.1 F.2.1 dL_law_172 (by decide +kernel) ?_
  refine nv_iadd F dL_law_173 ?_
  refine va_sld F.1 F.2.1 hXs hbl hbA hX.2.2.2.1 (vp_in_nI (by omega) (by omega)) dL_law_174 ?_
  rw [nI_clamp (n := i + 1) (by omega)]
  refine c_calliR (C := RX1) (As := [.int (xs (i + 1))]) (rest := [.int r0]) F (m_X1_has l D h2 cs2) q205 q202 q203 q14 q204 (n := 1) rfl (by decide +kernel) ⟨Nat.le_of_ble_eq_true rfl, Nat.le_of_ble_eq_true rfl⟩ rfl rfl hX (ci := 1) rfl rfl rfl rfl hl.1 (Nat.le_of_ble_eq_true rfl) ⟨Nat.le_of_ble_eq_true rfl, Nat.le_of_ble_eq_true rfl⟩ dL_law_175 (fun r1 u1 H locs hp1 hX => ?_)
  obtain ⟨hr, T', V', C', rfl, hI'⟩ := ag_has hI hp0 hp1
  exact lv_icmp_eq (tgt := 426) F.1 F.2.1 dL_law_178 (by decide) (fun _ => kk _ _ _ _ _ _ hI' hX) (fun q => absurd hr q)
set_option maxHeartbeats 4000000 in
set_option maxRecDepth 100000 in
theorem law_get (F : CallFix p m c cL_law 4 s args lw_all "SplitDirectoryLaw") (hXs : va_X b L xs s s.heap) (hbl : b < s.heap.size) (hbA : ¬ A b) (hL : L ≤ 192) (hi : i + 3 ≤ L) (hI : sI (dp, bc, kc, di, us, de, lo, ke, va) T V) (hX : wX D (sdT cs1 ++ mdT cs2) A s (sdW h1 cs1 (dp, bc, kc, di, us, de, lo, ke, va) ++ mdW h2 cs2 (T, V, C)) H locs) (hl : lv_has ls 4 [(0, .ref b), (1, .ref (h1 0)), (2, .ref (h2 0)), (3, .int (nI i))])
    (kk : ∀ (x : SD) (T : Nat → Bool) (V : Nat → Int32) (C : Nat → Nat) (H : Heap) (locs : List Loc), sI x T V → wX D (sdT cs1 ++ mdT cs2) A s (sdW h1 cs1 x ++ mdW h2 cs2 (T, V, C)) H locs → W p l e room_1 s m args below meth c H locs 11 1944 Q (F0 m 426 ls [])) : W p l e room_1 s m args below meth c H locs 11 1944 Q (F0 m 183 ls []) := by
  refine lv_aload_n F.1 F.2.1 dL_law_183 rfl (lv_at hl 1 rfl) ?_
  refine lv_aload_n F.1 F.2.1 dL_law_184 rfl (lv_at hl 0 rfl) ?_
  refine lv_iload_n F.1 F.2.1 dL_law_185 rfl (lv_at hl 3 rfl) ?_
  refine lv_iconst (v := nI 1) F.1 F.2.1 dL_law_186 (by decide +kernel) ?_
  refine nv_iadd F dL_law_187 ?_
  refine va_sld F.1 F.2.1 hXs hbl hbA hX.2.2.2.1 (vp_in_nI (by omega) (by omega)) dL_law_188 ?_
  rw [nI_clamp (n := i + 1) (by omega)]
  refine c_calliL (C := RX0) (As := [.int (xs (i + 1))]) (rest := []) F (m_X0_get l D h1 cs1 hI) q107 q108 q109 q13 q110 (n := 1) rfl (by decide +kernel) ⟨Nat.le_of_ble_eq_true rfl, Nat.le_of_ble_eq_true rfl⟩ rfl rfl hX (ci := 0) rfl rfl rfl rfl hl.1 (Nat.le_of_ble_eq_true rfl) ⟨Nat.le_of_ble_eq_true rfl, Nat.le_of_ble_eq_true rfl⟩ dL_law_189 (fun r0 u0 H locs hp0 hX => ?_)
  refine lv_aload_n F.1 F.2.1 dL_law_192 rfl (lv_at hl 2 rfl) ?_
  refine lv_aload_n F.1 F.2.1 dL_law_193 rfl (lv_at hl 0 rfl) ?_
  refine lv_iload_n F.1 F.2.1 dL_law_194 rfl (lv_at hl 3 rfl) ?_
  refine lv_iconst (v := nI 1) F.1 F.2.1 dL_law_195 (by decide +kernel) ?_
  refine nv_iadd F dL_law_196 ?_
  refine va_sld F.1 F.2.1 hXs hbl hbA hX.2.2.2.1 (vp_in_nI (by omega) (by omega)) dL_law_197 ?_
  rw [nI_clamp (n := i + 1) (by omega)]
  refine c_calliR (C := RX1) (As := [.int (xs (i + 1))]) (rest := [.int r0]) F (m_X1_get l D h2 cs2) q206 q207 q208 q14 q209 (n := 1) rfl (by decide +kernel) ⟨Nat.le_of_ble_eq_true rfl, Nat.le_of_ble_eq_true rfl⟩ rfl rfl hX (ci := 1) rfl rfl rfl rfl hl.1 (Nat.le_of_ble_eq_true rfl) ⟨Nat.le_of_ble_eq_true rfl, Nat.le_of_ble_eq_true rfl⟩ dL_law_198 (fun r1 u1 H locs hp1 hX => ?_)
  obtain ⟨hr, T', V', C', rfl, hI'⟩ := ag_get hI hp0 hp1
  exact lv_icmp_eq (tgt := 426) F.1 F.2.1 dL_law_201 (by decide) (fun _ => kk _ _ _ _ _ _ hI' hX) (fun q => absurd hr q)
set_option maxHeartbeats 4000000 in
set_option maxRecDepth 100000 in
theorem law_size (F : CallFix p m c cL_law 4 s args lw_all "SplitDirectoryLaw") (hXs : va_X b L xs s s.heap) (hbl : b < s.heap.size) (hbA : ¬ A b) (hL : L ≤ 192) (hi : i + 3 ≤ L) (hI : sI (dp, bc, kc, di, us, de, lo, ke, va) T V) (hX : wX D (sdT cs1 ++ mdT cs2) A s (sdW h1 cs1 (dp, bc, kc, di, us, de, lo, ke, va) ++ mdW h2 cs2 (T, V, C)) H locs) (hl : lv_has ls 4 [(0, .ref b), (1, .ref (h1 0)), (2, .ref (h2 0)), (3, .int (nI i))])
    (kk : ∀ (x : SD) (T : Nat → Bool) (V : Nat → Int32) (C : Nat → Nat) (H : Heap) (locs : List Loc), sI x T V → wX D (sdT cs1 ++ mdT cs2) A s (sdW h1 cs1 x ++ mdW h2 cs2 (T, V, C)) H locs → W p l e room_1 s m args below meth c H locs 11 1944 Q (F0 m 426 ls [])) : W p l e room_1 s m args below meth c H locs 11 1944 Q (F0 m 206 ls []) := by
  refine lv_aload_n F.1 F.2.1 dL_law_206 rfl (lv_at hl 1 rfl) ?_
  refine c_calliL (C := RX0) (As := []) (rest := []) F (m_X0_size l D h1 cs1 ) q111 q112 q113 q13 q114 (n := 0) rfl (by decide +kernel) ⟨Nat.le_of_ble_eq_true rfl, Nat.le_of_ble_eq_true rfl⟩ rfl rfl hX (ci := 0) rfl rfl rfl rfl hl.1 (Nat.le_of_ble_eq_true rfl) ⟨Nat.le_of_ble_eq_true rfl, Nat.le_of_ble_eq_true rfl⟩ dL_law_207 (fun r0 u0 H locs hp0 hX => ?_)
  refine lv_aload_n F.1 F.2.1 dL_law_210 rfl (lv_at hl 2 rfl) ?_
  refine c_calliR (C := RX1) (As := []) (rest := [.int r0]) F (m_X1_size l D h2 cs2) q210 q174 q175 q14 q176 (n := 0) rfl (by decide +kernel) ⟨Nat.le_of_ble_eq_true rfl, Nat.le_of_ble_eq_true rfl⟩ rfl rfl hX (ci := 1) rfl rfl rfl rfl hl.1 (Nat.le_of_ble_eq_true rfl) ⟨Nat.le_of_ble_eq_true rfl, Nat.le_of_ble_eq_true rfl⟩ dL_law_211 (fun r1 u1 H locs hp1 hX => ?_)
  obtain ⟨hr, T', V', C', rfl, hI'⟩ := ag_size hI hp0 hp1
  exact lv_icmp_eq (tgt := 426) F.1 F.2.1 dL_law_214 (by decide) (fun _ => kk _ _ _ _ _ _ hI' hX) (fun q => absurd hr q)
set_option maxHeartbeats 4000000 in
set_option maxRecDepth 100000 in
theorem law_buckets (F : CallFix p m c cL_law 4 s args lw_all "SplitDirectoryLaw") (hXs : va_X b L xs s s.heap) (hbl : b < s.heap.size) (hbA : ¬ A b) (hL : L ≤ 192) (hi : i + 3 ≤ L) (hI : sI (dp, bc, kc, di, us, de, lo, ke, va) T V) (hX : wX D (sdT cs1 ++ mdT cs2) A s (sdW h1 cs1 (dp, bc, kc, di, us, de, lo, ke, va) ++ mdW h2 cs2 (T, V, C)) H locs) (hl : lv_has ls 4 [(0, .ref b), (1, .ref (h1 0)), (2, .ref (h2 0)), (3, .int (nI i))])
    (kk : ∀ (x : SD) (T : Nat → Bool) (V : Nat → Int32) (C : Nat → Nat) (H : Heap) (locs : List Loc), sI x T V → wX D (sdT cs1 ++ mdT cs2) A s (sdW h1 cs1 x ++ mdW h2 cs2 (T, V, C)) H locs → W p l e room_1 s m args below meth c H locs 11 1944 Q (F0 m 426 ls [])) : W p l e room_1 s m args below meth c H locs 11 1944 Q (F0 m 219 ls []) := by
  refine lv_aload_n F.1 F.2.1 dL_law_219 rfl (lv_at hl 1 rfl) ?_
  refine c_calliL (C := RX0) (As := []) (rest := []) F (m_X0_buckets l D h1 cs1 ) q115 q116 q117 q13 q118 (n := 0) rfl (by decide +kernel) ⟨Nat.le_of_ble_eq_true rfl, Nat.le_of_ble_eq_true rfl⟩ rfl rfl hX (ci := 0) rfl rfl rfl rfl hl.1 (Nat.le_of_ble_eq_true rfl) ⟨Nat.le_of_ble_eq_true rfl, Nat.le_of_ble_eq_true rfl⟩ dL_law_220 (fun r0 u0 H locs hp0 hX => ?_)
  refine lv_aload_n F.1 F.2.1 dL_law_223 rfl (lv_at hl 2 rfl) ?_
  refine c_calliR (C := RX1) (As := []) (rest := [.int r0]) F (m_X1_buckets l D h2 cs2) q211 q178 q179 q14 q180 (n := 0) rfl (by decide +kernel) ⟨Nat.le_of_ble_eq_true rfl, Nat.le_of_ble_eq_true rfl⟩ rfl rfl hX (ci := 1) rfl rfl rfl rfl hl.1 (Nat.le_of_ble_eq_true rfl) ⟨Nat.le_of_ble_eq_true rfl, Nat.le_of_ble_eq_true rfl⟩ dL_law_224 (fun r1 u1 H locs hp1 hX => ?_)
  obtain ⟨hr, T', V', C', rfl, hI'⟩ := ag_buckets hI hp0 hp1
  exact lv_icmp_eq (tgt := 426) F.1 F.2.1 dL_law_227 (by decide) (fun _ => kk _ _ _ _ _ _ hI' hX) (fun q => absurd hr q)
set_option maxHeartbeats 4000000 in
set_option maxRecDepth 100000 in
theorem law_deepest (F : CallFix p m c cL_law 4 s args lw_all "SplitDirectoryLaw") (hXs : va_X b L xs s s.heap) (hbl : b < s.heap.size) (hbA : ¬ A b) (hL : L ≤ 192) (hi : i + 3 ≤ L) (hI : sI (dp, bc, kc, di, us, de, lo, ke, va) T V) (hX : wX D (sdT cs1 ++ mdT cs2) A s (sdW h1 cs1 (dp, bc, kc, di, us, de, lo, ke, va) ++ mdW h2 cs2 (T, V, C)) H locs) (hl : lv_has ls 4 [(0, .ref b), (1, .ref (h1 0)), (2, .ref (h2 0)), (3, .int (nI i))])
    (kk : ∀ (x : SD) (T : Nat → Bool) (V : Nat → Int32) (C : Nat → Nat) (H : Heap) (locs : List Loc), sI x T V → wX D (sdT cs1 ++ mdT cs2) A s (sdW h1 cs1 x ++ mdW h2 cs2 (T, V, C)) H locs → W p l e room_1 s m args below meth c H locs 11 1944 Q (F0 m 426 ls [])) : W p l e room_1 s m args below meth c H locs 11 1944 Q (F0 m 232 ls []) := by
  refine lv_aload_n F.1 F.2.1 dL_law_232 rfl (lv_at hl 1 rfl) ?_
  refine c_calliL (C := RX0) (As := []) (rest := []) F (m_X0_deepest l D h1 cs1 (sI_de hI)) q119 q103 q104 q13 q105 (n := 0) rfl (by decide +kernel) ⟨Nat.le_of_ble_eq_true rfl, Nat.le_of_ble_eq_true rfl⟩ rfl rfl hX (ci := 0) rfl rfl rfl rfl hl.1 (Nat.le_of_ble_eq_true rfl) ⟨Nat.le_of_ble_eq_true rfl, Nat.le_of_ble_eq_true rfl⟩ dL_law_233 (fun r0 u0 H locs hp0 hX => ?_)
  refine lv_aload_n F.1 F.2.1 dL_law_236 rfl (lv_at hl 2 rfl) ?_
  refine c_calliR (C := RX1) (As := []) (rest := [.int r0]) F (m_X1_deepest l D h2 cs2) q212 q213 q214 q14 q215 (n := 0) rfl (by decide +kernel) ⟨Nat.le_of_ble_eq_true rfl, Nat.le_of_ble_eq_true rfl⟩ rfl rfl hX (ci := 1) rfl rfl rfl rfl hl.1 (Nat.le_of_ble_eq_true rfl) ⟨Nat.le_of_ble_eq_true rfl, Nat.le_of_ble_eq_true rfl⟩ dL_law_237 (fun r1 u1 H locs hp1 hX => ?_)
  obtain ⟨hr, T', V', C', rfl, hI'⟩ := ag_deepest hI hp0 hp1
  exact lv_icmp_eq (tgt := 426) F.1 F.2.1 dL_law_240 (by decide) (fun _ => kk _ _ _ _ _ _ hI' hX) (fun q => absurd hr q)
set_option maxHeartbeats 4000000 in
set_option maxRecDepth 100000 in
theorem law_depthOf (F : CallFix p m c cL_law 4 s args lw_all "SplitDirectoryLaw") (hXs : va_X b L xs s s.heap) (hbl : b < s.heap.size) (hbA : ¬ A b) (hL : L ≤ 192) (hi : i + 3 ≤ L) (hI : sI (dp, bc, kc, di, us, de, lo, ke, va) T V) (hX : wX D (sdT cs1 ++ mdT cs2) A s (sdW h1 cs1 (dp, bc, kc, di, us, de, lo, ke, va) ++ mdW h2 cs2 (T, V, C)) H locs) (hl : lv_has ls 4 [(0, .ref b), (1, .ref (h1 0)), (2, .ref (h2 0)), (3, .int (nI i))])
    (kk : ∀ (x : SD) (T : Nat → Bool) (V : Nat → Int32) (C : Nat → Nat) (H : Heap) (locs : List Loc), sI x T V → wX D (sdT cs1 ++ mdT cs2) A s (sdW h1 cs1 x ++ mdW h2 cs2 (T, V, C)) H locs → W p l e room_1 s m args below meth c H locs 11 1944 Q (F0 m 426 ls [])) : W p l e room_1 s m args below meth c H locs 11 1944 Q (F0 m 245 ls []) := by
  refine lv_aload_n F.1 F.2.1 dL_law_245 rfl (lv_at hl 1 rfl) ?_
  refine lv_aload_n F.1 F.2.1 dL_law_246 rfl (lv_at hl 0 rfl) ?_
  refine lv_iload_n F.1 F.2.1 dL_law_247 rfl (lv_at hl 3 rfl) ?_
  refine lv_iconst (v := nI 1) F.1 F.2.1 dL_law_248 (by decide +kernel) ?_
  refine nv_iadd F dL_law_249 ?_
  refine va_sld F.1 F.2.1 hXs hbl hbA hX.2.2.2.1 (vp_in_nI (by omega) (by omega)) dL_law_250 ?_
  rw [nI_clamp (n := i + 1) (by omega)]
  refine c_calliL (C := RX0) (As := [.int (xs (i + 1))]) (rest := []) F (m_X0_depthOf l D h1 cs1 hI) q120 q121 q122 q13 q123 (n := 1) rfl (by decide +kernel) ⟨Nat.le_of_ble_eq_true rfl, Nat.le_of_ble_eq_true rfl⟩ rfl rfl hX (ci := 0) rfl rfl rfl rfl hl.1 (Nat.le_of_ble_eq_true rfl) ⟨Nat.le_of_ble_eq_true rfl, Nat.le_of_ble_eq_true rfl⟩ dL_law_251 (fun r0 u0 H locs hp0 hX => ?_)
  refine lv_aload_n F.1 F.2.1 dL_law_254 rfl (lv_at hl 2 rfl) ?_
  refine lv_aload_n F.1 F.2.1 dL_law_255 rfl (lv_at hl 0 rfl) ?_
  refine lv_iload_n F.1 F.2.1 dL_law_256 rfl (lv_at hl 3 rfl) ?_
  refine lv_iconst (v := nI 1) F.1 F.2.1 dL_law_257 (by decide +kernel) ?_
  refine nv_iadd F dL_law_258 ?_
  refine va_sld F.1 F.2.1 hXs hbl hbA hX.2.2.2.1 (vp_in_nI (by omega) (by omega)) dL_law_259 ?_
  rw [nI_clamp (n := i + 1) (by omega)]
  refine c_calliR (C := RX1) (As := [.int (xs (i + 1))]) (rest := [.int r0]) F (n_X1_depthOf l D h2 cs2) q216 q217 q218 q14 q219 (n := 1) rfl (by decide +kernel) ⟨Nat.le_of_ble_eq_true rfl, Nat.le_of_ble_eq_true rfl⟩ rfl rfl hX (ci := 1) rfl rfl rfl rfl hl.1 (Nat.le_of_ble_eq_true rfl) ⟨Nat.le_of_ble_eq_true rfl, Nat.le_of_ble_eq_true rfl⟩ dL_law_260 (fun r1 u1 H locs hp1 hX => ?_)
  obtain ⟨hr, T', V', C', rfl, hI'⟩ := ag_depthOf hI hp0 hp1
  exact lv_icmp_eq (tgt := 426) F.1 F.2.1 dL_law_263 (by decide) (fun _ => kk _ _ _ _ _ _ hI' hX) (fun q => absurd hr q)
set_option maxHeartbeats 4000000 in
set_option maxRecDepth 100000 in
theorem law_load (F : CallFix p m c cL_law 4 s args lw_all "SplitDirectoryLaw") (hXs : va_X b L xs s s.heap) (hbl : b < s.heap.size) (hbA : ¬ A b) (hL : L ≤ 192) (hi : i + 3 ≤ L) (hI : sI (dp, bc, kc, di, us, de, lo, ke, va) T V) (hX : wX D (sdT cs1 ++ mdT cs2) A s (sdW h1 cs1 (dp, bc, kc, di, us, de, lo, ke, va) ++ mdW h2 cs2 (T, V, C)) H locs) (hl : lv_has ls 4 [(0, .ref b), (1, .ref (h1 0)), (2, .ref (h2 0)), (3, .int (nI i))])
    (kk : ∀ (x : SD) (T : Nat → Bool) (V : Nat → Int32) (C : Nat → Nat) (H : Heap) (locs : List Loc), sI x T V → wX D (sdT cs1 ++ mdT cs2) A s (sdW h1 cs1 x ++ mdW h2 cs2 (T, V, C)) H locs → W p l e room_1 s m args below meth c H locs 11 1944 Q (F0 m 426 ls [])) : W p l e room_1 s m args below meth c H locs 11 1944 Q (F0 m 268 ls []) := by
  refine lv_aload_n F.1 F.2.1 dL_law_268 rfl (lv_at hl 1 rfl) ?_
  refine lv_aload_n F.1 F.2.1 dL_law_269 rfl (lv_at hl 0 rfl) ?_
  refine lv_iload_n F.1 F.2.1 dL_law_270 rfl (lv_at hl 3 rfl) ?_
  refine lv_iconst (v := nI 1) F.1 F.2.1 dL_law_271 (by decide +kernel) ?_
  refine nv_iadd F dL_law_272 ?_
  refine va_sld F.1 F.2.1 hXs hbl hbA hX.2.2.2.1 (vp_in_nI (by omega) (by omega)) dL_law_273 ?_
  rw [nI_clamp (n := i + 1) (by omega)]
  refine c_calliL (C := RX0) (As := [.int (xs (i + 1))]) (rest := []) F (m_X0_load l D h1 cs1 hI) q124 q125 q126 q13 q127 (n := 1) rfl (by decide +kernel) ⟨Nat.le_of_ble_eq_true rfl, Nat.le_of_ble_eq_true rfl⟩ rfl rfl hX (ci := 0) rfl rfl rfl rfl hl.1 (Nat.le_of_ble_eq_true rfl) ⟨Nat.le_of_ble_eq_true rfl, Nat.le_of_ble_eq_true rfl⟩ dL_law_274 (fun r0 u0 H locs hp0 hX => ?_)
  refine lv_aload_n F.1 F.2.1 dL_law_277 rfl (lv_at hl 2 rfl) ?_
  refine lv_aload_n F.1 F.2.1 dL_law_278 rfl (lv_at hl 0 rfl) ?_
  refine lv_iload_n F.1 F.2.1 dL_law_279 rfl (lv_at hl 3 rfl) ?_
  refine lv_iconst (v := nI 1) F.1 F.2.1 dL_law_280 (by decide +kernel) ?_
  refine nv_iadd F dL_law_281 ?_
  refine va_sld F.1 F.2.1 hXs hbl hbA hX.2.2.2.1 (vp_in_nI (by omega) (by omega)) dL_law_282 ?_
  rw [nI_clamp (n := i + 1) (by omega)]
  refine c_calliR (C := RX1) (As := [.int (xs (i + 1))]) (rest := [.int r0]) F (n_X1_load l D h2 cs2) q220 q221 q222 q14 q223 (n := 1) rfl (by decide +kernel) ⟨Nat.le_of_ble_eq_true rfl, Nat.le_of_ble_eq_true rfl⟩ rfl rfl hX (ci := 1) rfl rfl rfl rfl hl.1 (Nat.le_of_ble_eq_true rfl) ⟨Nat.le_of_ble_eq_true rfl, Nat.le_of_ble_eq_true rfl⟩ dL_law_283 (fun r1 u1 H locs hp1 hX => ?_)
  obtain ⟨hr, T', V', C', rfl, hI'⟩ := ag_load hI hp0 hp1
  exact lv_icmp_eq (tgt := 426) F.1 F.2.1 dL_law_286 (by decide) (fun _ => kk _ _ _ _ _ _ hI' hX) (fun q => absurd hr q)
set_option maxHeartbeats 4000000 in
set_option maxRecDepth 100000 in
theorem law_inBucket (F : CallFix p m c cL_law 4 s args lw_all "SplitDirectoryLaw") (hXs : va_X b L xs s s.heap) (hbl : b < s.heap.size) (hbA : ¬ A b) (hL : L ≤ 192) (hi : i + 3 ≤ L) (hI : sI (dp, bc, kc, di, us, de, lo, ke, va) T V) (hX : wX D (sdT cs1 ++ mdT cs2) A s (sdW h1 cs1 (dp, bc, kc, di, us, de, lo, ke, va) ++ mdW h2 cs2 (T, V, C)) H locs) (hl : lv_has ls 4 [(0, .ref b), (1, .ref (h1 0)), (2, .ref (h2 0)), (3, .int (nI i))])
    (kk : ∀ (x : SD) (T : Nat → Bool) (V : Nat → Int32) (C : Nat → Nat) (H : Heap) (locs : List Loc), sI x T V → wX D (sdT cs1 ++ mdT cs2) A s (sdW h1 cs1 x ++ mdW h2 cs2 (T, V, C)) H locs → W p l e room_1 s m args below meth c H locs 11 1944 Q (F0 m 426 ls [])) : W p l e room_1 s m args below meth c H locs 11 1944 Q (F0 m 291 ls []) := by
  refine lv_aload_n F.1 F.2.1 dL_law_291 rfl (lv_at hl 1 rfl) ?_
  refine lv_aload_n F.1 F.2.1 dL_law_292 rfl (lv_at hl 0 rfl) ?_
  refine lv_iload_n F.1 F.2.1 dL_law_293 rfl (lv_at hl 3 rfl) ?_
  refine lv_iconst (v := nI 1) F.1 F.2.1 dL_law_294 (by decide +kernel) ?_
  refine nv_iadd F dL_law_295 ?_
  refine va_sld F.1 F.2.1 hXs hbl hbA hX.2.2.2.1 (vp_in_nI (by omega) (by omega)) dL_law_296 ?_
  rw [nI_clamp (n := i + 1) (by omega)]
  refine lv_aload_n F.1 F.2.1 dL_law_297 rfl (lv_at hl 0 rfl) ?_
  refine lv_iload_n F.1 F.2.1 dL_law_298 rfl (lv_at hl 3 rfl) ?_
  refine lv_iconst (v := nI 2) F.1 F.2.1 dL_law_299 (by decide +kernel) ?_
  refine nv_iadd F dL_law_300 ?_
  refine va_sld F.1 F.2.1 hXs hbl hbA hX.2.2.2.1 (vp_in_nI (by omega) (by omega)) dL_law_301 ?_
  rw [nI_clamp (n := i + 2) (by omega)]
  refine c_calliL (C := RX0) (As := [.int (xs (i + 1)), .int (xs (i + 2))]) (rest := []) F (m_X0_inBucket l D h1 cs1 hI) q128 q129 q130 q13 q131 (n := 2) rfl (by decide +kernel) ⟨Nat.le_of_ble_eq_true rfl, Nat.le_of_ble_eq_true rfl⟩ rfl rfl hX (ci := 0) rfl rfl rfl rfl hl.1 (Nat.le_of_ble_eq_true rfl) ⟨Nat.le_of_ble_eq_true rfl, Nat.le_of_ble_eq_true rfl⟩ dL_law_302 (fun r0 u0 H locs hp0 hX => ?_)
  refine lv_aload_n F.1 F.2.1 dL_law_305 rfl (lv_at hl 2 rfl) ?_
  refine lv_aload_n F.1 F.2.1 dL_law_306 rfl (lv_at hl 0 rfl) ?_
  refine lv_iload_n F.1 F.2.1 dL_law_307 rfl (lv_at hl 3 rfl) ?_
  refine lv_iconst (v := nI 1) F.1 F.2.1 dL_law_308 (by decide +kernel) ?_
  refine nv_iadd F dL_law_309 ?_
  refine va_sld F.1 F.2.1 hXs hbl hbA hX.2.2.2.1 (vp_in_nI (by omega) (by omega)) dL_law_310 ?_
  rw [nI_clamp (n := i + 1) (by omega)]
  refine lv_aload_n F.1 F.2.1 dL_law_311 rfl (lv_at hl 0 rfl) ?_
  refine lv_iload_n F.1 F.2.1 dL_law_312 rfl (lv_at hl 3 rfl) ?_
  refine lv_iconst (v := nI 2) F.1 F.2.1 dL_law_313 (by decide +kernel) ?_
  refine nv_iadd F dL_law_314 ?_
  refine va_sld F.1 F.2.1 hXs hbl hbA hX.2.2.2.1 (vp_in_nI (by omega) (by omega)) dL_law_315 ?_
  rw [nI_clamp (n := i + 2) (by omega)]
  refine c_calliR (C := RX1) (As := [.int (xs (i + 1)), .int (xs (i + 2))]) (rest := [.int r0]) F (n_X1_inBucket l D h2 cs2) q225 q226 q227 q14 q228 (n := 2) rfl (by decide +kernel) ⟨Nat.le_of_ble_eq_true rfl, Nat.le_of_ble_eq_true rfl⟩ rfl rfl hX (ci := 1) rfl rfl rfl rfl hl.1 (Nat.le_of_ble_eq_true rfl) ⟨Nat.le_of_ble_eq_true rfl, Nat.le_of_ble_eq_true rfl⟩ dL_law_316 (fun r1 u1 H locs hp1 hX => ?_)
  obtain ⟨hr, T', V', C', rfl, hI'⟩ := ag_inBucket hI hp0 hp1
  exact lv_icmp_eq (tgt := 426) F.1 F.2.1 dL_law_319 (by decide) (fun _ => kk _ _ _ _ _ _ hI' hX) (fun q => absurd hr q)
set_option maxHeartbeats 4000000 in
set_option maxRecDepth 100000 in
theorem law_together (F : CallFix p m c cL_law 4 s args lw_all "SplitDirectoryLaw") (hXs : va_X b L xs s s.heap) (hbl : b < s.heap.size) (hbA : ¬ A b) (hL : L ≤ 192) (hi : i + 3 ≤ L) (hI : sI (dp, bc, kc, di, us, de, lo, ke, va) T V) (hX : wX D (sdT cs1 ++ mdT cs2) A s (sdW h1 cs1 (dp, bc, kc, di, us, de, lo, ke, va) ++ mdW h2 cs2 (T, V, C)) H locs) (hl : lv_has ls 4 [(0, .ref b), (1, .ref (h1 0)), (2, .ref (h2 0)), (3, .int (nI i))])
    (kk : ∀ (x : SD) (T : Nat → Bool) (V : Nat → Int32) (C : Nat → Nat) (H : Heap) (locs : List Loc), sI x T V → wX D (sdT cs1 ++ mdT cs2) A s (sdW h1 cs1 x ++ mdW h2 cs2 (T, V, C)) H locs → W p l e room_1 s m args below meth c H locs 11 1944 Q (F0 m 426 ls [])) : W p l e room_1 s m args below meth c H locs 11 1944 Q (F0 m 324 ls []) := by
  refine lv_aload_n F.1 F.2.1 dL_law_324 rfl (lv_at hl 1 rfl) ?_
  refine lv_aload_n F.1 F.2.1 dL_law_325 rfl (lv_at hl 0 rfl) ?_
  refine lv_iload_n F.1 F.2.1 dL_law_326 rfl (lv_at hl 3 rfl) ?_
  refine lv_iconst (v := nI 1) F.1 F.2.1 dL_law_327 (by decide +kernel) ?_
  refine nv_iadd F dL_law_328 ?_
  refine va_sld F.1 F.2.1 hXs hbl hbA hX.2.2.2.1 (vp_in_nI (by omega) (by omega)) dL_law_329 ?_
  rw [nI_clamp (n := i + 1) (by omega)]
  refine lv_aload_n F.1 F.2.1 dL_law_330 rfl (lv_at hl 0 rfl) ?_
  refine lv_iload_n F.1 F.2.1 dL_law_331 rfl (lv_at hl 3 rfl) ?_
  refine lv_iconst (v := nI 2) F.1 F.2.1 dL_law_332 (by decide +kernel) ?_
  refine nv_iadd F dL_law_333 ?_
  refine va_sld F.1 F.2.1 hXs hbl hbA hX.2.2.2.1 (vp_in_nI (by omega) (by omega)) dL_law_334 ?_
  rw [nI_clamp (n := i + 2) (by omega)]
  refine c_calliL (C := RX0) (As := [.int (xs (i + 1)), .int (xs (i + 2))]) (rest := []) F (m_X0_together l D h1 cs1 hI) q132 q133 q134 q13 q135 (n := 2) rfl (by decide +kernel) ⟨Nat.le_of_ble_eq_true rfl, Nat.le_of_ble_eq_true rfl⟩ rfl rfl hX (ci := 0) rfl rfl rfl rfl hl.1 (Nat.le_of_ble_eq_true rfl) ⟨Nat.le_of_ble_eq_true rfl, Nat.le_of_ble_eq_true rfl⟩ dL_law_335 (fun r0 u0 H locs hp0 hX => ?_)
  refine lv_aload_n F.1 F.2.1 dL_law_338 rfl (lv_at hl 2 rfl) ?_
  refine lv_aload_n F.1 F.2.1 dL_law_339 rfl (lv_at hl 0 rfl) ?_
  refine lv_iload_n F.1 F.2.1 dL_law_340 rfl (lv_at hl 3 rfl) ?_
  refine lv_iconst (v := nI 1) F.1 F.2.1 dL_law_341 (by decide +kernel) ?_
  refine nv_iadd F dL_law_342 ?_
  refine va_sld F.1 F.2.1 hXs hbl hbA hX.2.2.2.1 (vp_in_nI (by omega) (by omega)) dL_law_343 ?_
  rw [nI_clamp (n := i + 1) (by omega)]
  refine lv_aload_n F.1 F.2.1 dL_law_344 rfl (lv_at hl 0 rfl) ?_
  refine lv_iload_n F.1 F.2.1 dL_law_345 rfl (lv_at hl 3 rfl) ?_
  refine lv_iconst (v := nI 2) F.1 F.2.1 dL_law_346 (by decide +kernel) ?_
  refine nv_iadd F dL_law_347 ?_
  refine va_sld F.1 F.2.1 hXs hbl hbA hX.2.2.2.1 (vp_in_nI (by omega) (by omega)) dL_law_348 ?_
  rw [nI_clamp (n := i + 2) (by omega)]
  refine c_calliR (C := RX1) (As := [.int (xs (i + 1)), .int (xs (i + 2))]) (rest := [.int r0]) F (n_X1_together l D h2 cs2) q229 q230 q231 q14 q232 (n := 2) rfl (by decide +kernel) ⟨Nat.le_of_ble_eq_true rfl, Nat.le_of_ble_eq_true rfl⟩ rfl rfl hX (ci := 1) rfl rfl rfl rfl hl.1 (Nat.le_of_ble_eq_true rfl) ⟨Nat.le_of_ble_eq_true rfl, Nat.le_of_ble_eq_true rfl⟩ dL_law_349 (fun r1 u1 H locs hp1 hX => ?_)
  obtain ⟨hr, T', V', C', rfl, hI'⟩ := ag_together hI hp0 hp1
  exact lv_icmp_eq (tgt := 426) F.1 F.2.1 dL_law_352 (by decide) (fun _ => kk _ _ _ _ _ _ hI' hX) (fun q => absurd hr q)
set_option maxHeartbeats 4000000 in
set_option maxRecDepth 100000 in
theorem law_ofDepth (F : CallFix p m c cL_law 4 s args lw_all "SplitDirectoryLaw") (hXs : va_X b L xs s s.heap) (hbl : b < s.heap.size) (hbA : ¬ A b) (hL : L ≤ 192) (hi : i + 3 ≤ L) (hI : sI (dp, bc, kc, di, us, de, lo, ke, va) T V) (hX : wX D (sdT cs1 ++ mdT cs2) A s (sdW h1 cs1 (dp, bc, kc, di, us, de, lo, ke, va) ++ mdW h2 cs2 (T, V, C)) H locs) (hl : lv_has ls 4 [(0, .ref b), (1, .ref (h1 0)), (2, .ref (h2 0)), (3, .int (nI i))])
    (kk : ∀ (x : SD) (T : Nat → Bool) (V : Nat → Int32) (C : Nat → Nat) (H : Heap) (locs : List Loc), sI x T V → wX D (sdT cs1 ++ mdT cs2) A s (sdW h1 cs1 x ++ mdW h2 cs2 (T, V, C)) H locs → W p l e room_1 s m args below meth c H locs 11 1944 Q (F0 m 426 ls [])) : W p l e room_1 s m args below meth c H locs 11 1944 Q (F0 m 357 ls []) := by
  refine lv_aload_n F.1 F.2.1 dL_law_357 rfl (lv_at hl 1 rfl) ?_
  refine lv_aload_n F.1 F.2.1 dL_law_358 rfl (lv_at hl 0 rfl) ?_
  refine lv_iload_n F.1 F.2.1 dL_law_359 rfl (lv_at hl 3 rfl) ?_
  refine lv_iconst (v := nI 1) F.1 F.2.1 dL_law_360 (by decide +kernel) ?_
  refine nv_iadd F dL_law_361 ?_
  refine va_sld F.1 F.2.1 hXs hbl hbA hX.2.2.2.1 (vp_in_nI (by omega) (by omega)) dL_law_362 ?_
  rw [nI_clamp (n := i + 1) (by omega)]
  refine c_calliL (C := RX0) (As := [.int (xs (i + 1))]) (rest := []) F (m_X0_ofDepth l D h1 cs1 ) q136 q137 q138 q13 q139 (n := 1) rfl (by decide +kernel) ⟨Nat.le_of_ble_eq_true rfl, Nat.le_of_ble_eq_true rfl⟩ rfl rfl hX (ci := 0) rfl rfl rfl rfl hl.1 (Nat.le_of_ble_eq_true rfl) ⟨Nat.le_of_ble_eq_true rfl, Nat.le_of_ble_eq_true rfl⟩ dL_law_363 (fun r0 u0 H locs hp0 hX => ?_)
  refine lv_aload_n F.1 F.2.1 dL_law_366 rfl (lv_at hl 2 rfl) ?_
  refine lv_aload_n F.1 F.2.1 dL_law_367 rfl (lv_at hl 0 rfl) ?_
  refine lv_iload_n F.1 F.2.1 dL_law_368 rfl (lv_at hl 3 rfl) ?_
  refine lv_iconst (v := nI 1) F.1 F.2.1 dL_law_369 (by decide +kernel) ?_
  refine nv_iadd F dL_law_370 ?_
  refine va_sld F.1 F.2.1 hXs hbl hbA hX.2.2.2.1 (vp_in_nI (by omega) (by omega)) dL_law_371 ?_
  rw [nI_clamp (n := i + 1) (by omega)]
  refine c_calliR (C := RX1) (As := [.int (xs (i + 1))]) (rest := [.int r0]) F (n_X1_ofDepth l D h2 cs2) q233 q182 q183 q14 q184 (n := 1) rfl (by decide +kernel) ⟨Nat.le_of_ble_eq_true rfl, Nat.le_of_ble_eq_true rfl⟩ rfl rfl hX (ci := 1) rfl rfl rfl rfl hl.1 (Nat.le_of_ble_eq_true rfl) ⟨Nat.le_of_ble_eq_true rfl, Nat.le_of_ble_eq_true rfl⟩ dL_law_372 (fun r1 u1 H locs hp1 hX => ?_)
  obtain ⟨hr, T', V', C', rfl, hI'⟩ := ag_ofDepth hI hp0 hp1
  exact lv_icmp_eq (tgt := 426) F.1 F.2.1 dL_law_375 (by decide) (fun _ => kk _ _ _ _ _ _ hI' hX) (fun q => absurd hr q)
set_option maxHeartbeats 4000000 in
set_option maxRecDepth 100000 in
theorem law_next (F : CallFix p m c cL_law 4 s args lw_all "SplitDirectoryLaw") (hXs : va_X b L xs s s.heap) (hbl : b < s.heap.size) (hbA : ¬ A b) (hL : L ≤ 192) (hi : i + 3 ≤ L) (hI : sI (dp, bc, kc, di, us, de, lo, ke, va) T V) (hX : wX D (sdT cs1 ++ mdT cs2) A s (sdW h1 cs1 (dp, bc, kc, di, us, de, lo, ke, va) ++ mdW h2 cs2 (T, V, C)) H locs) (hl : lv_has ls 4 [(0, .ref b), (1, .ref (h1 0)), (2, .ref (h2 0)), (3, .int (nI i))])
    (kk : ∀ (x : SD) (T : Nat → Bool) (V : Nat → Int32) (C : Nat → Nat) (H : Heap) (locs : List Loc), sI x T V → wX D (sdT cs1 ++ mdT cs2) A s (sdW h1 cs1 x ++ mdW h2 cs2 (T, V, C)) H locs → W p l e room_1 s m args below meth c H locs 11 1944 Q (F0 m 426 ls [])) : W p l e room_1 s m args below meth c H locs 11 1944 Q (F0 m 380 ls []) := by
  refine lv_aload_n F.1 F.2.1 dL_law_380 rfl (lv_at hl 1 rfl) ?_
  refine lv_aload_n F.1 F.2.1 dL_law_381 rfl (lv_at hl 0 rfl) ?_
  refine lv_iload_n F.1 F.2.1 dL_law_382 rfl (lv_at hl 3 rfl) ?_
  refine lv_iconst (v := nI 1) F.1 F.2.1 dL_law_383 (by decide +kernel) ?_
  refine nv_iadd F dL_law_384 ?_
  refine va_sld F.1 F.2.1 hXs hbl hbA hX.2.2.2.1 (vp_in_nI (by omega) (by omega)) dL_law_385 ?_
  rw [nI_clamp (n := i + 1) (by omega)]
  refine c_calliL (C := RX0) (As := [.int (xs (i + 1))]) (rest := []) F (m_X0_next l D h1 cs1 hI) q140 q141 q142 q13 q143 (n := 1) rfl (by decide +kernel) ⟨Nat.le_of_ble_eq_true rfl, Nat.le_of_ble_eq_true rfl⟩ rfl rfl hX (ci := 0) rfl rfl rfl rfl hl.1 (Nat.le_of_ble_eq_true rfl) ⟨Nat.le_of_ble_eq_true rfl, Nat.le_of_ble_eq_true rfl⟩ dL_law_386 (fun r0 u0 H locs hp0 hX => ?_)
  refine lv_aload_n F.1 F.2.1 dL_law_389 rfl (lv_at hl 2 rfl) ?_
  refine lv_aload_n F.1 F.2.1 dL_law_390 rfl (lv_at hl 0 rfl) ?_
  refine lv_iload_n F.1 F.2.1 dL_law_391 rfl (lv_at hl 3 rfl) ?_
  refine lv_iconst (v := nI 1) F.1 F.2.1 dL_law_392 (by decide +kernel) ?_
  refine nv_iadd F dL_law_393 ?_
  refine va_sld F.1 F.2.1 hXs hbl hbA hX.2.2.2.1 (vp_in_nI (by omega) (by omega)) dL_law_394 ?_
  rw [nI_clamp (n := i + 1) (by omega)]
  refine c_calliR (C := RX1) (As := [.int (xs (i + 1))]) (rest := [.int r0]) F (m_X1_next l D h2 cs2) q234 q235 q236 q14 q237 (n := 1) rfl (by decide +kernel) ⟨Nat.le_of_ble_eq_true rfl, Nat.le_of_ble_eq_true rfl⟩ rfl rfl hX (ci := 1) rfl rfl rfl rfl hl.1 (Nat.le_of_ble_eq_true rfl) ⟨Nat.le_of_ble_eq_true rfl, Nat.le_of_ble_eq_true rfl⟩ dL_law_395 (fun r1 u1 H locs hp1 hX => ?_)
  obtain ⟨hr, T', V', C', rfl, hI'⟩ := ag_next hI hp0 hp1
  exact lv_icmp_eq (tgt := 426) F.1 F.2.1 dL_law_398 (by decide) (fun _ => kk _ _ _ _ _ _ hI' hX) (fun q => absurd hr q)
set_option maxHeartbeats 4000000 in
set_option maxRecDepth 100000 in
theorem law_growth (F : CallFix p m c cL_law 4 s args lw_all "SplitDirectoryLaw") (hXs : va_X b L xs s s.heap) (hbl : b < s.heap.size) (hbA : ¬ A b) (hL : L ≤ 192) (hi : i + 3 ≤ L) (hI : sI (dp, bc, kc, di, us, de, lo, ke, va) T V) (hX : wX D (sdT cs1 ++ mdT cs2) A s (sdW h1 cs1 (dp, bc, kc, di, us, de, lo, ke, va) ++ mdW h2 cs2 (T, V, C)) H locs) (hl : lv_has ls 4 [(0, .ref b), (1, .ref (h1 0)), (2, .ref (h2 0)), (3, .int (nI i))])
    (kk : ∀ (x : SD) (T : Nat → Bool) (V : Nat → Int32) (C : Nat → Nat) (H : Heap) (locs : List Loc), sI x T V → wX D (sdT cs1 ++ mdT cs2) A s (sdW h1 cs1 x ++ mdW h2 cs2 (T, V, C)) H locs → W p l e room_1 s m args below meth c H locs 11 1944 Q (F0 m 426 ls [])) : W p l e room_1 s m args below meth c H locs 11 1944 Q (F0 m 403 ls []) := by
  refine lv_aload_n F.1 F.2.1 dL_law_403 rfl (lv_at hl 1 rfl) ?_
  refine lv_aload_n F.1 F.2.1 dL_law_404 rfl (lv_at hl 0 rfl) ?_
  refine lv_iload_n F.1 F.2.1 dL_law_405 rfl (lv_at hl 3 rfl) ?_
  refine lv_iconst (v := nI 1) F.1 F.2.1 dL_law_406 (by decide +kernel) ?_
  refine nv_iadd F dL_law_407 ?_
  refine va_sld F.1 F.2.1 hXs hbl hbA hX.2.2.2.1 (vp_in_nI (by omega) (by omega)) dL_law_408 ?_
  rw [nI_clamp (n := i + 1) (by omega)]
  refine c_calliL (C := RX0) (As := [.int (xs (i + 1))]) (rest := []) F (m_X0_growth l D h1 cs1 hI) q144 q145 q146 q13 q147 (n := 1) rfl (by decide +kernel) ⟨Nat.le_of_ble_eq_true rfl, Nat.le_of_ble_eq_true rfl⟩ rfl rfl hX (ci := 0) rfl rfl rfl rfl hl.1 (Nat.le_of_ble_eq_true rfl) ⟨Nat.le_of_ble_eq_true rfl, Nat.le_of_ble_eq_true rfl⟩ dL_law_409 (fun r0 u0 H locs hp0 hX => ?_)
  refine lv_aload_n F.1 F.2.1 dL_law_412 rfl (lv_at hl 2 rfl) ?_
  refine lv_aload_n F.1 F.2.1 dL_law_413 rfl (lv_at hl 0 rfl) ?_
  refine lv_iload_n F.1 F.2.1 dL_law_414 rfl (lv_at hl 3 rfl) ?_
  refine lv_iconst (v := nI 1) F.1 F.2.1 dL_law_415 (by decide +kernel) ?_
  refine nv_iadd F dL_law_416 ?_
  refine va_sld F.1 F.2.1 hXs hbl hbA hX.2.2.2.1 (vp_in_nI (by omega) (by omega)) dL_law_417 ?_
  rw [nI_clamp (n := i + 1) (by omega)]
  refine c_calliR (C := RX1) (As := [.int (xs (i + 1))]) (rest := [.int r0]) F (m_X1_growth l D h2 cs2) q238 q239 q240 q14 q241 (n := 1) rfl (by decide +kernel) ⟨Nat.le_of_ble_eq_true rfl, Nat.le_of_ble_eq_true rfl⟩ rfl rfl hX (ci := 1) rfl rfl rfl rfl hl.1 (Nat.le_of_ble_eq_true rfl) ⟨Nat.le_of_ble_eq_true rfl, Nat.le_of_ble_eq_true rfl⟩ dL_law_418 (fun r1 u1 H locs hp1 hX => ?_)
  obtain ⟨hr, T', V', C', rfl, hI'⟩ := ag_growth hI hp0 hp1
  exact lv_icmp_eq (tgt := 426) F.1 F.2.1 dL_law_421 (by decide) (fun _ => kk _ _ _ _ _ _ hI' hX) (fun q => absurd hr q)
end CASES
end
section
/-! THE CLAIM OUT OF ONE WALK OF THE LAW'S BODY. Your part is whole_start (and what it stands on); all else here is the same for every law, but numbers. -/
def R_law : String := "SplitDirectoryLaw"
def lw_P (b : Addr) (xs : List Int32) (args : Array Value) (s : State) : Prop := args = #[.ref b] ∧ s.IntsAt b xs ∧ xs.length ≤ 192 ∧ (Jvm.Cond.and given_1 narrow_1).before args s = true
def lw_Q (_ : Array Value) (s : State) (o : Outcome) (t : State) : Prop := o = .returned (some (.int 1)) ∧ Framed s o t [] 600000 7290000
def lw_Z (below : List Frame) (a : Array Value) (s : State) : State → Prop := fun t => ∃ o, t.status = .running ∧ Ended t below o ∧ lw_Q a s o t
/-- the law's own end, with 1 on the stack, nothing written that was there before, its room as the claim has it -/
theorem lw_ret {p : Program} {l : Launch} {e : Env} {s : State} {m : MethodId} {below : List Frame} {meth : Method} {c : Code} {b : Nat} (hx : p.tables.exec = Jvm.exec) (hb : c.code = code) (hr : meth.sig.returnType = ret) (hlocks : meth.locks = false) {pc : Nat} {H : Heap} {ls : Array Slot} (hdg : decode code pc = .ok (.ireturn, 1)) : W p l e room_1 s m #[Value.ref b] below meth c H [] 600000 7290000 (lw_Z below #[Value.ref b] s) (F0 m pc ls [.int 1]) := by
  intro T hT X
  obtain ⟨fs, hret, hrun, hended, hW, hframe⟩ := X.leave (v := some (.int 1)) (hlocks := hlocks) (fun h => by rw [hr] at h; cases h)
  have hmeth' : T.vm.method? m = some meth := X.method'
  refine ⟨T.setFrames fs, ?_, .returned (some (.int 1)), hrun, hended, rfl, ⟨_, rfl⟩, hW, hframe⟩
  jvm_step X.here [X.here.top, hx, hb, hdg, hmeth', hr, ret, narrow_b1]
  (try refine ⟨rfl, ?_⟩); (try refine ⟨rfl, ?_⟩)
  first | (intro acts; rw [hret _ acts rfl rfl rfl]) | rw [hret _ _ rfl rfl rfl]
  exact Steps.refl _
/-- what holds at the law's entry: the machine, the code, the tables' words (any of lw_tbl by 'hts w (by decide +kernel)'), the script of L ints xs at the cell b, what the Statement gives of the start (any of its parts by flat_of_before) -/
def lw_At (p : Program) (s : State) (m : MethodId) (meth : Method) (c : Code) (b L : Nat) (xs : Nat → Int32) : Prop :=
  p.tables.exec = Jvm.exec ∧ c.code = code ∧ meth.sig.returnType = ret ∧ c.maxLocals = 4 ∧ s.vm.findClass R_law = some m.cls ∧ (∀ w ∈ lw_tbl, w.before #[Value.ref b] s = true) ∧ va_X b L xs s s.heap ∧ b < s.heap.size ∧ meth.locks = false ∧ (Jvm.Cond.and given_1 narrow_1).before #[Value.ref b] s = true
set_option maxHeartbeats 4000000 in
set_option maxRecDepth 100000 in
/-- the law's loop at its head -/
theorem law_loop {p : Program} {l : Launch} {e : Env} {s : State} {m : MethodId} {below : List Frame} {meth : Method} {c : Code} {D : va_G} {h1 h2 : Nat → Nat} {cs1 cs2 : Nat → ClassId} {b L : Nat} {xs : Nat → Int32} (F : CallFix p m c cL_law 4 s #[Value.ref b] lw_all "SplitDirectoryLaw") (hr : meth.sig.returnType = ret) (hlocks : meth.locks = false) (hXs : va_X b L xs s s.heap) (hbl : b < s.heap.size) (hL : L ≤ 192) :
    ∀ (n i : Nat) (x : SD) (T : Nat → Bool) (V : Nat → Int32) (C : Nat → Nat) (H : Heap) (locs : List Loc) (ls : Array Slot), L + 1 ≤ i + n → i ≤ L → sI x T V → wX D (sdT cs1 ++ mdT cs2) (fun q : Nat => s.heap.size ≤ q) s (sdW h1 cs1 x ++ mdW h2 cs2 (T, V, C)) H locs → lv_has ls 4 [(0, .ref b), (1, .ref (h1 0)), (2, .ref (h2 0)), (3, .int (nI i))] → W p l e room_1 s m #[Value.ref b] below meth c H locs 11 1944 (lw_Z below #[Value.ref b] s) (F0 m 18 ls []) := by
  have hbA : ¬ (fun q : Nat => s.heap.size ≤ q) b := Nat.not_le.mpr hbl
  intro n
  induction n with
  | zero => intro i x T V C H locs ls h1 h2; omega
  | succ n ih =>
    intro i x T V C H locs ls hn hi hI hX hl
    obtain ⟨dp, bc, kc, di, us, de, lo, ke, va⟩ := x
    refine lv_iload_n F.1 F.2.1 dL_law_18 rfl (lv_at hl 3 rfl) ?_
    refine lv_aload_n F.1 F.2.1 dL_law_19 rfl (lv_at hl 0 rfl) ?_
    refine va_slen F.1 F.2.1 hXs hbl hbA hX.2.2.2.1 dL_law_20 ?_
    refine lv_iconst (v := nI 3) F.1 F.2.1 dL_law_21 (by decide +kernel) ?_
    refine lv_isub F.1 F.2.1 dL_law_22 ?_
    refine lv_icmp_gt (tgt := 432) F.1 F.2.1 dL_law_23 (by decide) (fun c23 => ?_) (fun c23 => ?_)
    · refine lv_iconst (v := 1) F.1 F.2.1 dL_law_432 (by decide +kernel) ?_
      refine va_forget (fun q hq => hX.2.2.2.1.2.2 q hq) ?_
      refine W.widen (k := 600000) (n := 7290000) (Nat.le_of_ble_eq_true rfl) (Nat.le_of_ble_eq_true rfl) ?_
      exact lw_ret F.1 F.2.1 hr hlocks dL_law_433
    · have c23 : ¬ (nI L - nI 3 < nI i) := c23
      have hi3 : i + 3 ≤ L := by
        have e1 := pk_sub_toInt (a := L) (b := 3) (by omega) (by omega)
        have e2 := nI_toInt (n := i) (by omega)
        rw [Int32.lt_iff_toInt_lt, e1, e2] at c23
        omega
      have next : ∀ (x : SD) (T : Nat → Bool) (V : Nat → Int32) (C : Nat → Nat) (H : Heap) (locs : List Loc), sI x T V → wX D (sdT cs1 ++ mdT cs2) (fun q : Nat => s.heap.size ≤ q) s (sdW h1 cs1 x ++ mdW h2 cs2 (T, V, C)) H locs → W p l e room_1 s m #[Value.ref b] below meth c H locs 11 1944 (lw_Z below #[Value.ref b] s) (F0 m 426 ls []) := by
        intro x T V C H locs hI hX
        refine lv_iinc (v := nI (i + 3)) (lv' := [(3, .int (nI (i + 3))), (0, .ref b), (1, .ref (h1 0)), (2, .ref (h2 0))]) F.1 F.2.1 dL_law_426 hl (k := 3) rfl (by rw [show Int32.ofInt 3 = nI 3 from by decide +kernel]; exact nI_add i 3) (by decide) rfl (fun ls hl => ?_)
        refine lv_goto (tgt := 18) F.1 F.2.1 dL_law_429 (by decide) ?_
        exact ih (i + 3) x T V C H locs ls (by omega) hi3 hI hX (lv_sub hl [1, 2, 3, 0] rfl)
      refine lv_aload_n F.1 F.2.1 dL_law_26 rfl (lv_at hl 0 rfl) ?_
      refine lv_iload_n F.1 F.2.1 dL_law_27 rfl (lv_at hl 3 rfl) ?_
      refine va_sld F.1 F.2.1 hXs hbl hbA hX.2.2.2.1 (vp_in_nI (by omega) (by omega)) dL_law_28 ?_
      refine lv_bipush (v := 15) F.1 F.2.1 dL_law_29 (by decide +kernel) ?_
      refine lv_iand F.1 F.2.1 dL_law_31 ?_
      obtain ⟨j, hj, he⟩ := pk_andE (xs (nI i).toNatClampNeg) (m := 15) 4 (by decide +kernel)
      rw [he]
      rcases (show j = 0 ∨ j = 1 ∨ j = 2 ∨ j = 3 ∨ j = 4 ∨ j = 5 ∨ j = 6 ∨ j = 7 ∨ j = 8 ∨ j = 9 ∨ j = 10 ∨ j = 11 ∨ j = 12 ∨ j = 13 ∨ j = 14 ∨ j = 15 by omega) with rfl | rfl | rfl | rfl | rfl | rfl | rfl | rfl | rfl | rfl | rfl | rfl | rfl | rfl | rfl | rfl
      · refine lv_tableIn (off := 72) (tgt := 104) F.1 F.2.1 dL_law_32 (by decide +kernel) (by decide +kernel) (by decide +kernel) (by decide) ?_
        exact law_put F hXs hbl hbA hL hi3 hI hX hl next
      · refine lv_tableIn (off := 105) (tgt := 137) F.1 F.2.1 dL_law_32 (by decide +kernel) (by decide +kernel) (by decide +kernel) (by decide) ?_
        exact law_remove F hXs hbl hbA hL hi3 hI hX hl next
      · refine lv_tableIn (off := 128) (tgt := 160) F.1 F.2.1 dL_law_32 (by decide +kernel) (by decide +kernel) (by decide +kernel) (by decide) ?_
        exact law_has F hXs hbl hbA hL hi3 hI hX hl next
      · refine lv_tableIn (off := 151) (tgt := 183) F.1 F.2.1 dL_law_32 (by decide +kernel) (by decide +kernel) (by decide +kernel) (by decide) ?_
        exact law_get F hXs hbl hbA hL hi3 hI hX hl next
      · refine lv_tableIn (off := 174) (tgt := 206) F.1 F.2.1 dL_law_32 (by decide +kernel) (by decide +kernel) (by decide +kernel) (by decide) ?_
        exact law_size F hXs hbl hbA hL hi3 hI hX hl next
      · refine lv_tableIn (off := 187) (tgt := 219) F.1 F.2.1 dL_law_32 (by decide +kernel) (by decide +kernel) (by decide +kernel) (by decide) ?_
        exact law_buckets F hXs hbl hbA hL hi3 hI hX hl next
      · refine lv_tableIn (off := 200) (tgt := 232) F.1 F.2.1 dL_law_32 (by decide +kernel) (by decide +kernel) (by decide +kernel) (by decide) ?_
        exact law_deepest F hXs hbl hbA hL hi3 hI hX hl next
      · refine lv_tableIn (off := 213) (tgt := 245) F.1 F.2.1 dL_law_32 (by decide +kernel) (by decide +kernel) (by decide +kernel) (by decide) ?_
        exact law_depthOf F hXs hbl hbA hL hi3 hI hX hl next
      · refine lv_tableIn (off := 236) (tgt := 268) F.1 F.2.1 dL_law_32 (by decide +kernel) (by decide +kernel) (by decide +kernel) (by decide) ?_
        exact law_load F hXs hbl hbA hL hi3 hI hX hl next
      · refine lv_tableIn (off := 259) (tgt := 291) F.1 F.2.1 dL_law_32 (by decide +kernel) (by decide +kernel) (by decide +kernel) (by decide) ?_
        exact law_inBucket F hXs hbl hbA hL hi3 hI hX hl next
      · refine lv_tableIn (off := 292) (tgt := 324) F.1 F.2.1 dL_law_32 (by decide +kernel) (by decide +kernel) (by decide +kernel) (by decide) ?_
        exact law_together F hXs hbl hbA hL hi3 hI hX hl next
      · refine lv_tableIn (off := 325) (tgt := 357) F.1 F.2.1 dL_law_32 (by decide +kernel) (by decide +kernel) (by decide +kernel) (by decide) ?_
        exact law_ofDepth F hXs hbl hbA hL hi3 hI hX hl next
      · refine lv_tableIn (off := 348) (tgt := 380) F.1 F.2.1 dL_law_32 (by decide +kernel) (by decide +kernel) (by decide +kernel) (by decide) ?_
        exact law_next F hXs hbl hbA hL hi3 hI hX hl next
      · refine lv_tableIn (off := 371) (tgt := 403) F.1 F.2.1 dL_law_32 (by decide +kernel) (by decide +kernel) (by decide +kernel) (by decide) ?_
        exact law_growth F hXs hbl hbA hL hi3 hI hX hl next
      · refine lv_tableOut (tgt := 426) F.1 F.2.1 dL_law_32 (Or.inr (by decide +kernel)) (by decide) ?_
        exact next _ _ _ _ _ _ hI hX
      · refine lv_tableOut (tgt := 426) F.1 F.2.1 dL_law_32 (Or.inr (by decide +kernel)) (by decide) ?_
        exact next _ _ _ _ _ _ hI hX
set_option maxHeartbeats 4000000 in
set_option maxRecDepth 100000 in
theorem whole_start {p : Program} {e : Env} {s : State} {m : MethodId} {below : List Frame} {meth : Method} {c : Code} (l : Launch) {b L : Nat} {xs : Nat → Int32} (hL : L ≤ 192) (C0 : lw_At p s m meth c b L xs) : W p l e room_1 s m #[Value.ref b] below meth c s.heap [] 0 0 (lw_Z below #[Value.ref b] s) (entryFrame m ([Value.ref b] : List Value).toArray 4) := by
  obtain ⟨hx, hb, hr, hml, hown, hts0, hXs, hbl, hlocks, hgv⟩ := id C0
  have hts : ∀ w ∈ lw_all, w.before #[Value.ref b] s = true := fun w h => hts0 w (lw_all_tbl h)
  have hA : ∀ q : Nat, s.heap.size ≤ q → (fun q : Nat => s.heap.size ≤ q) q := fun _ h => h
  have F : CallFix p m c cL_law 4 s #[Value.ref b] lw_all "SplitDirectoryLaw" := ⟨hx, hb, hml, hown, hts⟩
  obtain ⟨c0, iS0, hKn0⟩ := u_known (C := RX0) (T := TX0) (N := 9) (n := 9) hts0 (fun w h => lw_all_tbl (in_X0 w h)) (hts0 _ (lw_all_tbl q16))
  obtain ⟨c1, iS1, hKn1⟩ := u_known (C := RX1) (T := TX1) (N := 3) (n := 3) hts0 (fun w h => lw_all_tbl (in_X1 w h)) (hts0 _ (lw_all_tbl q150))
  obtain ⟨dC, dI, hKc⟩ : ∃ (dC : Nat → ClassId) (dI : Nat → Nat → Nat), ∀ (k : Nat) (q : vw_C), vwCl[k]? = some q → u_Kn s q.1 q.2.1 q.2.2 (dC k) (dI k) := by
    refine ⟨fun k => if k = 0 then c0 else c1, fun k => if k = 0 then iS0 else iS1, ?_⟩
    intro k q hq
    match k, hq with
    | 0, hq => cases hq; exact hKn0
    | 1, hq => cases hq; exact hKn1
    | k + 2, hq => simp [vwCl] at hq
  have hS : va_S (fun q : Nat => s.heap.size ≤ q) s.heap s.heap [] := va_S.rf
  have hK : va_K (dC, dI) vwCl [] s := ⟨hKc, fun k q h => by simp at h⟩
  have hP : va_P (dC, dI) vwCl [] s.heap := fun k q h => by simp at h
  have hD : va_D (fun q : Nat => s.heap.size ≤ q) [] := ⟨fun i j p q h => by simp at h, fun k q h => by simp at h⟩
  have hl := lv_entry ([.ref b]) (n := 4) (Nat.le_of_ble_eq_true rfl)
  rw [lg_entry_eq]
  generalize (lg_sl ([.ref b]) ++ List.replicate (4 - (lg_sl ([.ref b])).length) Slot.unset).toArray = ls at hl ⊢
  have hl : lv_has ls 4 [(0, .ref b)] := hl
  refine va_new (ci := 0) (fs := [.int 0, .null, .null, .null, .null, .null, .null, .int 0, .int 0]) (C := RX0) (T := TX0) (N := 9) hx hb hts in_X0 tyX0 tyX0_ok hown (hts _ q15) (hts _ q16) (hts _ q13) hK hP hD hS hA rfl (fun j hj => by rcases (show j = 0 ∨ j = 1 ∨ j = 2 ∨ j = 3 ∨ j = 4 ∨ j = 5 ∨ j = 6 ∨ j = 7 ∨ j = 8 by omega) with rfl | rfl | rfl | rfl | rfl | rfl | rfl | rfl | rfl <;> rfl) (Nat.le_of_ble_eq_true rfl) (Nat.le_of_ble_eq_true rfl) dL_law_0 (fun q0v H hP hD hS => ?_)
  have hX1 : wX (dC, dI) [] (fun q : Nat => s.heap.size ≤ q) s ([] ++ w0X0 q0v) H [] := ⟨hK, hP, hD, hS, hA⟩
  have hX1' : wX (dC, dI) [] (fun q : Nat => s.heap.size ≤ q) s (w0X0 q0v) H [] := hX1
  have hFc := wX_free hX1'
  refine lv_dup hx hb dL_law_3 rfl ?_
  refine va_callv (va_runI (As := []) (rest := [.ref q0v]) F (m_X0_init l (dC, dI) q0v H.size) (cwI 0 hts (lw_meth q19) rfl rfl rfl (hts _ q13) (hts _ q17) (hts _ q18) rfl (by decide +kernel) ⟨Nat.le_of_ble_eq_true rfl, Nat.le_of_ble_eq_true rfl⟩) ⟨cS_blind, cS_start hX1'⟩ rfl rfl hl.1 rfl (lv_room (Nat.le_of_ble_eq_true rfl)) dL_law_4 ⟨Nat.le_of_ble_eq_true rfl, Nat.le_of_ble_eq_true rfl⟩) hS (fun q _ h => hFc q h) hFc (fun u t H1 locs ht hvm hw hB hz1 hk1 hS => ?_)
  obtain ⟨h1, cs1⟩ := u
  have hw : h1 0 = q0v := hw
  subst hw
  have hX := wX_grow hX1 ht hvm hB hk1 hS
  have hX : wX (dC, dI) (sdT cs1) (fun q : Nat => s.heap.size ≤ q) s (sdW h1 cs1 sd0) H1 locs := hX
  refine W.widen (k := 7) (n := 918) (Nat.le_of_ble_eq_true rfl) (Nat.le_of_ble_eq_true rfl) ?_
  refine lv_astore_n (lv' := [(1, .ref (h1 0)), (0, .ref b)]) hx hb dL_law_7 rfl hl (by decide) rfl (fun ls hl => ?_)
  refine va_new (ci := 1) (fs := [.null, .null, .null]) (C := RX1) (T := TX1) (N := 3) hx hb hts in_X1 tyX1 tyX1_ok hown (hts _ q149) (hts _ q150) (hts _ q14) hX.1 hX.2.1 hX.2.2.1 hX.2.2.2.1 hA rfl (fun j hj => by rcases (show j = 0 ∨ j = 1 ∨ j = 2 by omega) with rfl | rfl | rfl <;> rfl) (Nat.le_of_ble_eq_true rfl) (Nat.le_of_ble_eq_true rfl) dL_law_8 (fun q1v H hP hD hS => ?_)
  have hX2 : wX (dC, dI) (sdT cs1) (fun q : Nat => s.heap.size ≤ q) s (sdW h1 cs1 sd0 ++ w0X1 q1v) H locs := ⟨hX.1, hP, hD, hS, hA⟩
  have hX2' : wX (dC, dI) [] (fun q : Nat => s.heap.size ≤ q) s (w0X1 q1v) H locs := wX_r (ta := sdT cs1) (tb := []) hX2
  have hFc := wX_free hX2'
  refine lv_dup hx hb dL_law_11 rfl ?_
  refine va_callv (va_runI (As := []) (rest := [.ref q1v]) F (m_X1_init l (dC, dI) q1v H.size) (cwI 0 hts (lw_meth q153) rfl rfl rfl (hts _ q14) (hts _ q151) (hts _ q152) rfl (by decide +kernel) ⟨Nat.le_of_ble_eq_true rfl, Nat.le_of_ble_eq_true rfl⟩) ⟨cS_blind, cS_start hX2'⟩ rfl rfl hl.1 rfl (lv_room (Nat.le_of_ble_eq_true rfl)) dL_law_12 ⟨Nat.le_of_ble_eq_true rfl, Nat.le_of_ble_eq_true rfl⟩) hS (fun q _ h => hFc q h) hFc (fun u t H1 locs ht hvm hw hB hz1 hk1 hS => ?_)
  obtain ⟨h2, cs2⟩ := u
  have hw : h2 0 = q1v := hw
  subst hw
  have hX := wX_grow hX2 ht hvm hB hk1 hS
  have hX : wX (dC, dI) (sdT cs1 ++ mdT cs2) (fun q : Nat => s.heap.size ≤ q) s (sdW h1 cs1 sd0 ++ mdW h2 cs2 md0) H1 locs := hX
  refine W.widen (k := 11) (n := 1944) (Nat.le_of_ble_eq_true rfl) (Nat.le_of_ble_eq_true rfl) ?_
  refine lv_astore_n (lv' := [(2, .ref (h2 0)), (1, .ref (h1 0)), (0, .ref b)]) hx hb dL_law_15 rfl hl (by decide) rfl (fun ls hl => ?_)
  refine lv_iconst (v := nI 0) hx hb dL_law_16 (by decide +kernel) ?_
  refine lv_istore_n (lv' := [(3, .int (nI 0)), (2, .ref (h2 0)), (1, .ref (h1 0)), (0, .ref b)]) hx hb dL_law_17 rfl hl (by decide) rfl (fun ls hl => ?_)
  exact law_loop F hr hlocks hXs hbl hL (L + 1) 0 sd0 (fun _ => false) (fun _ => 0) (fun _ => 0) _ _ _ (by omega) (Nat.zero_le _) (sI_start rfl rfl rfl) hX (lv_sub hl [3, 2, 1, 0] rfl)
set_option maxHeartbeats 4000000 in
theorem lw_walk (l : Launch) (b : Addr) (xs : List Int32) : MetFree l x (headSpec (Jvm.Cond.code x code maxLocals ret :: tables_1) room_1) (lw_P b xs) (fun _ _ _ _ _ => True) lw_Q := by
  refine MetFree.of_bodyS (code := code) (maxLocals := maxLocals) (ret := ret) (by decide) ?_ ?_
  · intro args s m h hn
    obtain ⟨meth, c, h1, h2, h3, h4, h5, h6, -, -⟩ := Cond.code_spec hn (atoms_spec (ws := Jvm.Cond.code x code maxLocals ret :: tables_1) h _ List.mem_cons_self)
    exact ⟨meth, c, h1, h2, h3, h4, h5, h6⟩
  · intro p e s m args below meth c s₁ B hml0 hP _
    obtain ⟨rfl, hx, hbd, hgv⟩ := hP
    obtain ⟨scr, harrAt, hlist, hof, hsmall⟩ := hx
    obtain ⟨hcb, hkn, -, -⟩ := State.arrayAt?_spec harrAt
    have hown : s.vm.findClass R_law = some m.cls := findClass_of_methodNamed B.named
    have hts0 : ∀ c ∈ (Jvm.Cond.code x code maxLocals ret :: tables_1), c.before #[Value.ref b] s = true := atoms_spec (ws := Jvm.Cond.code x code maxLocals ret :: tables_1) B.pre
    have hts : ∀ w ∈ lw_tbl, w.before #[Value.ref b] s = true := k2_hts_sels lw_privs (fun w hw => hts0 w (List.mem_cons_of_mem _ hw)) lw_privs_ok
    have hml : c.maxLocals = 4 := B.maxLocals_eq (hts0 _ List.mem_cons_self)
    have X₀ : Stand p l e room_1 s m #[Value.ref b] below meth c s₁ [] 0 0 := Stand.of_body B
    have hh0 : s₁.heap = s.heap := by rw [B.state]; rfl
    have hsz : scr.slots.size = xs.length := by rw [← Array.length_toList, hlist, List.length_map]
    have hval : ∀ j : Nat, j < xs.length → scr.slots[j]? = some (.int (xs.getD j 0)) := fun j hj => by
      rw [← Array.getElem?_toList, hlist]
      simp [hj]
    have hbl : b < s.heap.size := (Array.getElem?_eq_some_iff.mp hcb).1
    have hX : va_X b xs.length (fun j => xs.getD j 0) s s.heap := ⟨scr, hcb, hof, hkn, hsz, hval⟩
    have K : W p l e room_1 s m #[Value.ref b] below meth c s₁.heap [] 0 0 (lw_Z below #[Value.ref b] s) (entryFrame m ([Value.ref b] : List Value).toArray 4) := by
      rw [hh0]
      exact whole_start l hbd ⟨B.exec, B.bytes, B.returns, hml, hown, hts, hX, hbl, B.notSynchronized, hgv⟩
    obtain ⟨t, a1, o, b1, b2, b3⟩ := K s₁ rfl X₀
    exact ⟨t, o, a1, b1, b2, b3⟩
theorem lw_pre_spec {args : Array Value} {s : State} (h : (Jvm.Cond.and given_1 narrow_1).before args s = true) (hr : rest_1_c.before args s = true) : ∃ (b : Addr) (xs : List Int32), lw_P b xs args s := by
  have hs := flat_of_before _ h
  have hq := flat_of_before _ hr
  have hc : (Cond.count 1).before args s = true := hs _ (by decide +kernel)
  have harr : (Cond.arrayOf (.arg 0) .int).before args s = true := hs _ (by decide +kernel)
  have hle : (Cond.le (.length (.arg 0)) (.int 192)).before args s = true := hs _ (by decide +kernel)
  have hlen : (Cond.isInt (.length (.arg 0))).before args s = true := hq _ (by decide +kernel)
  have hall : (Cond.all (.arg 0) (.isInt (.elem (.arg 0) (.index 0)))).before args s = true := hq _ (by decide +kernel)
  obtain ⟨b, xs, hb, hx⟩ := State.ints_of_pre rfl harr hlen hall
  have hsm : xs.length < 2 ^ 31 := hx.choose_spec.2.2.2
  have hev : (Term.length (.arg 0)).eval args s none [] s = some (.int xs.length.toInt32) := hx.length_eval hb
  have hv := Cond.le_ints hev (show (Term.int 192).eval args s none [] s = some (.int 192) from rfl)
  have hd : xs.length.toInt32 ≤ 192 := by
    simpa [Cond.before, Cond.holds, hv] using hle
  have hN : xs.length ≤ 192 := (Int32.ofNat_le_ofNat hsm (by decide)).mp (show Int32.ofNat xs.length ≤ Int32.ofNat 192 from hd)
  exact ⟨b, xs, Cond.one_arg hc (show args[0]? = some (.ref b) from hb), hx, hN, h⟩
theorem lw_comes (l : Launch) : Comes l x (Jvm.Cond.code x code maxLocals ret :: tables_1) room_1 (fun tb e args s => Calls_1 tb e args s ∧ rest_1 tb e args s ∧ Pre_1 tb e args s)
    (fun _ _ args s o t => lw_Q args s o t) := by
  intro p e ha hc hk s m args below hf hfit hheap happ hpre
  obtain ⟨b, xs, hP⟩ := lw_pre_spec hpre.2.2 hpre.2.1
  obtain ⟨k, o, h1, h2, h3, hQ⟩ := lw_walk l b xs p e ha hc hk s m args below hf ((Spec.applies_iff_loose hf).mp happ).1 hP trivial
  exact ⟨k, o, h1, h2, h3, hQ⟩
theorem lw_frame {s t : State} {o : Outcome} {args : Array Value} (h : Framed s o t [] 600000 7290000) :
    Framed s o t (fieldLocs frame_1_writes args s ++ arrayLocs frame_1_arrays args s ++ staticLocs frame_1_statics s) 600000 7290000 := h
theorem lw_limb (L : Cond) (hL : ∀ (args : Array Value) (s t : State), L.after args s (.returned (some (.int 1))) t = true) :
    ArmFor flags0 classFile x code maxLocals ret World_1 tables_1 room_1 Calls_1 rest_1 Pre_1
      (fun tb e a s o t => postC L tb e a s o t ∧ Framed s o t (fieldLocs frame_1_writes a s ++ arrayLocs frame_1_arrays a s ++ staticLocs frame_1_statics s) 600000 7290000) := by
  intro l _ _ _ p e ha hc hk s m args below hf hfit hheap happ hpre
  obtain ⟨k, o, h1, h2, h3, rfl, hF⟩ := lw_comes l p e ha hc hk s m args below hf hfit hheap happ hpre
  exact ⟨k, _, h1, h2, h3, hL args s _, lw_frame hF⟩
theorem i_vc : Claimed_1_1 ∧ Claimed_1_2 := ⟨lw_limb limb_1_1 (fun args s t => by simp [limb_1_1, Cond.after, Cond.holds, Cond.value]), lw_limb limb_1_2 (fun args s t => Cond.after_iff.mpr (by
  first | (rw [show limb_1_2 = Cond.eq .result (.int 1) from rfl, Cond.eq_ints (x := 1) (y := 1) rfl rfl]; simp; done) | (simp [limb_1_2, Cond.value, Term.eval]; done)))⟩
end
