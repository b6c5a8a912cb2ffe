section
-- ===== PART A: goes FIRST, ahead of the names: the tables' words, and 'selects' of the private methods out of them =====
/-- a private method of a class that the tables say can be made, by its rows of tables_1 -/
def lw_okq (q : MethodName × Nat) : Prop := (q.1.cls ≠ "java/lang/invoke/MethodHandle" ∧ q.1.cls ≠ "java/lang/invoke/VarHandle") ∧ Cond.instantiable q.1.cls q.2 ∈ tables_1 ∧ Cond.privateMethod q.1 ∈ tables_1 ∧ Cond.instanceMethod q.1 ∈ tables_1
set_option maxRecDepth 100000
theorem lw_p0 : lw_okq (⟨"CardFiles", "byteAt", "(II)I"⟩, 9) := ⟨⟨by decide +kernel, by decide +kernel⟩, List.mem_of_getElem? (i := 4) rfl, List.mem_of_getElem? (i := 50) rfl, List.mem_of_getElem? (i := 51) rfl⟩
theorem lw_p1 : lw_okq (⟨"CardFiles", "stage", "(I)V"⟩, 9) := ⟨⟨by decide +kernel, by decide +kernel⟩, List.mem_of_getElem? (i := 4) rfl, List.mem_of_getElem? (i := 54) rfl, List.mem_of_getElem? (i := 55) rfl⟩
theorem lw_p2 : lw_okq (⟨"CardFiles", "writeLog", "()V"⟩, 9) := ⟨⟨by decide +kernel, by decide +kernel⟩, List.mem_of_getElem? (i := 4) rfl, List.mem_of_getElem? (i := 58) rfl, List.mem_of_getElem? (i := 59) rfl⟩
theorem lw_p3 : lw_okq (⟨"CardFiles", "bringAllHome", "()V"⟩, 9) := ⟨⟨by decide +kernel, by decide +kernel⟩, List.mem_of_getElem? (i := 4) rfl, List.mem_of_getElem? (i := 62) rfl, List.mem_of_getElem? (i := 63) rfl⟩
theorem lw_p4 : lw_okq (⟨"CardFiles", "bringHome", "(I)V"⟩, 9) := ⟨⟨by decide +kernel, by decide +kernel⟩, List.mem_of_getElem? (i := 4) rfl, List.mem_of_getElem? (i := 66) rfl, List.mem_of_getElem? (i := 67) rfl⟩
theorem lw_p5 : lw_okq (⟨"CardFiles", "unstage", "()V"⟩, 9) := ⟨⟨by decide +kernel, by decide +kernel⟩, List.mem_of_getElem? (i := 4) rfl, List.mem_of_getElem? (i := 70) rfl, List.mem_of_getElem? (i := 71) rfl⟩
theorem lw_p6 : lw_okq (⟨"CardFiles", "refuse", "(II)I"⟩, 9) := ⟨⟨by decide +kernel, by decide +kernel⟩, List.mem_of_getElem? (i := 4) rfl, List.mem_of_getElem? (i := 78) rfl, List.mem_of_getElem? (i := 79) rfl⟩
theorem lw_p7 : lw_okq (⟨"CardFiles", "start", "()V"⟩, 9) := ⟨⟨by decide +kernel, by decide +kernel⟩, List.mem_of_getElem? (i := 4) rfl, List.mem_of_getElem? (i := 110) rfl, List.mem_of_getElem? (i := 111) rfl⟩
theorem lw_p8 : lw_okq (⟨"CardFilesModel", "keep", "()V"⟩, 13) := ⟨⟨by decide +kernel, by decide +kernel⟩, List.mem_of_getElem? (i := 123) rfl, List.mem_of_getElem? (i := 173) rfl, List.mem_of_getElem? (i := 174) rfl⟩
theorem lw_p9 : lw_okq (⟨"CardFilesModel", "refuse", "(II)I"⟩, 13) := ⟨⟨by decide +kernel, by decide +kernel⟩, List.mem_of_getElem? (i := 123) rfl, List.mem_of_getElem? (i := 181) rfl, List.mem_of_getElem? (i := 182) rfl⟩
def lw_privs_1 : List (MethodName × Nat) := [(⟨"CardFiles", "byteAt", "(II)I"⟩, 9), (⟨"CardFiles", "stage", "(I)V"⟩, 9), (⟨"CardFiles", "writeLog", "()V"⟩, 9), (⟨"CardFiles", "bringAllHome", "()V"⟩, 9), (⟨"CardFiles", "bringHome", "(I)V"⟩, 9), (⟨"CardFiles", "unstage", "()V"⟩, 9), (⟨"CardFiles", "refuse", "(II)I"⟩, 9), (⟨"CardFiles", "start", "()V"⟩, 9), (⟨"CardFilesModel", "keep", "()V"⟩, 13), (⟨"CardFilesModel", "refuse", "(II)I"⟩, 13)]
theorem lw_r1 : ∀ q ∈ lw_privs_1, lw_okq q := List.forall_mem_cons.mpr ⟨lw_p0, List.forall_mem_cons.mpr ⟨lw_p1, List.forall_mem_cons.mpr ⟨lw_p2, List.forall_mem_cons.mpr ⟨lw_p3, List.forall_mem_cons.mpr ⟨lw_p4, List.forall_mem_cons.mpr ⟨lw_p5, List.forall_mem_cons.mpr ⟨lw_p6, List.forall_mem_cons.mpr ⟨lw_p7, List.forall_mem_cons.mpr ⟨lw_p8, List.forall_mem_cons.mpr ⟨lw_p9, fun _ h => absurd h List.not_mem_nil⟩⟩⟩⟩⟩⟩⟩⟩⟩⟩
def lw_privs : List (MethodName × Nat) := lw_privs_1
def lw_tbl : List Cond := k2_sels lw_privs ++ tables_1
theorem lw_privs_ok : ∀ q ∈ lw_privs, lw_okq q := lw_r1
-- ===== ONE list of words for every method: the tables' words that hold all through a run =====
def lw_all : List Cond := lw_tbl.filter goodWord
/-- a word of the tables by its place: claim/WORDS.tsv -/
theorem lw_w {w : Cond} (i : Nat) (h : lw_tbl[i]? = some w) (g : goodWord w = true) : w ∈ lw_all := List.mem_filter.mpr ⟨List.mem_of_getElem? h, g⟩
theorem lw_all_tbl {w : Cond} (h : w ∈ lw_all) : w ∈ lw_tbl := (List.mem_filter.mp h).1
theorem lw_self : GoodIn lw_all lw_all := fun w h => ⟨h, good_of_word (List.mem_filter.mp h).2⟩
/-- a class's field words, by their places -/
theorem lw_in (ws : List Cond) (ps : List Nat) (hp : ws = ps.filterMap (fun i => lw_tbl[i]?)) (hg : ws.all goodWord = true) : ∀ w ∈ ws, w ∈ lw_all := by
  intro w h
  have h1 := List.all_eq_true.mp hg w h
  rw [hp] at h
  obtain ⟨i, -, hi⟩ := List.mem_filterMap.mp h
  exact lw_w i hi h1
/-- the words of a contract for the method y with code b, L locals, answer r -/
abbrev ws_ (y : MethodName) (b : ByteArray) (L : Nat) (r : Option FieldType) : List Cond := Cond.code y b L r :: lw_all
theorem lw_meth {y : MethodName} {b : ByteArray} {L : Nat} {r : Option FieldType} (h : Cond.code y b L r ∈ lw_all) : GoodIn lw_all (ws_ y b L r) := by
  intro w hw
  rcases List.mem_cons.mp hw with e | e
  · rw [e]
    exact lw_self _ h
  · exact lw_self _ e
theorem lw_app {a c : List Cond} (ha : ∀ w ∈ a, w ∈ lw_all) (hc : GoodIn lw_all c) : GoodIn lw_all (a ++ c) := by
  intro w hw
  rcases List.mem_append.mp hw with e | e
  · exact lw_self w (ha w e)
  · exact hc w e
/-- what a call through an object asks: cwV n hts (lw_V ..) -/
theorem lw_V {own : String} {idx : Nat} {C : String} {y : MethodName} {b : ByteArray} {L : Nat} {r : Option FieldType} (h1 : Cond.methodLink own idx y ∈ lw_all) (h2 : Cond.instanceMethod y ∈ lw_all) (h3 : Cond.selects C y y ∈ lw_all) (h4 : Cond.initialized C ∈ lw_all) (h5 : Cond.code y b L r ∈ lw_all) : GoodIn lw_all (wsV own idx C y (ws_ y b L r)) := by
  refine lw_app ?_ (lw_meth h5)
  intro w hw
  simp only [List.mem_cons, List.not_mem_nil, or_false] at hw
  rcases hw with e | e | e | e
  · rw [e]; exact h1
  · rw [e]; exact h2
  · rw [e]; exact h3
  · rw [e]; exact h4
/-- what a static call asks: va_cwS n hts (lw_S ..) -/
theorem lw_S {own : String} {idx : Nat} {y : MethodName} {b : ByteArray} {L : Nat} {r : Option FieldType} (h1 : Cond.methodLink own idx y ∈ lw_all) (h2 : Cond.static y ∈ lw_all) (h3 : Cond.initialized y.cls ∈ lw_all) (h4 : Cond.code y b L r ∈ lw_all) : GoodIn lw_all (va_wsS own idx y (ws_ y b L r)) := by
  refine lw_app ?_ (lw_meth h4)
  intro w hw
  simp only [List.mem_cons, List.not_mem_nil, or_false] at hw
  rcases hw with e | e | e
  · rw [e]; exact h1
  · rw [e]; exact h2
  · rw [e]; exact h3
/-- the words of a contract for a method WITH HANDLERS (hh: its table) -/
abbrev wsW_ (y : MethodName) (b : ByteArray) (L : Nat) (r : Option FieldType) (hh : List (Nat × Nat × Nat × Nat)) : List Cond := Cond.codeWith y b L r hh :: lw_all
theorem lw_methW {y : MethodName} {b : ByteArray} {L : Nat} {r : Option FieldType} {hh : List (Nat × Nat × Nat × Nat)} (h : Cond.codeWith y b L r hh ∈ lw_all) : GoodIn lw_all (wsW_ y b L r hh) := by
  intro w hw
  rcases List.mem_cons.mp hw with e | e
  · rw [e]
    exact lw_self _ h
  · exact lw_self _ e
/-- any list of words by their places (lw_in), good -/
theorem lw_good {ws : List Cond} (h : ∀ w ∈ ws, w ∈ lw_all) : GoodIn lw_all ws := fun w hw => lw_self w (h w hw)
/-- what a call of a method with handlers asks: vx_cwVW n hts (lw_VW ..), vx_cwSW n hts (lw_SW ..) -/
theorem lw_VW {own : String} {idx : Nat} {C : String} {y : MethodName} {b : ByteArray} {L : Nat} {r : Option FieldType} {hh : List (Nat × Nat × Nat × Nat)} (h1 : Cond.methodLink own idx y ∈ lw_all) (h2 : Cond.instanceMethod y ∈ lw_all) (h3 : Cond.selects C y y ∈ lw_all) (h4 : Cond.initialized C ∈ lw_all) (h5 : Cond.codeWith y b L r hh ∈ lw_all) : GoodIn lw_all (wsV own idx C y (wsW_ y b L r hh)) := by
  refine lw_app ?_ (lw_methW h5)
  intro w hw
  simp only [List.mem_cons, List.not_mem_nil, or_false] at hw
  rcases hw with e | e | e | e
  · rw [e]; exact h1
  · rw [e]; exact h2
  · rw [e]; exact h3
  · rw [e]; exact h4
theorem lw_SW {own : String} {idx : Nat} {y : MethodName} {b : ByteArray} {L : Nat} {r : Option FieldType} {hh : List (Nat × Nat × Nat × Nat)} (h1 : Cond.methodLink own idx y ∈ lw_all) (h2 : Cond.static y ∈ lw_all) (h3 : Cond.initialized y.cls ∈ lw_all) (h4 : Cond.codeWith y b L r hh ∈ lw_all) : GoodIn lw_all (va_wsS own idx y (wsW_ y b L r hh)) := by
  refine lw_app ?_ (lw_methW h4)
  intro w hw
  simp only [List.mem_cons, List.not_mem_nil, or_false] at hw
  rcases hw with e | e | e
  · rw [e]; exact h1
  · rw [e]; exact h2
  · rw [e]; exact h3
/-- a word by its place in its run of the tables -/
theorem lw_at {r : List Cond} (hr : ∀ w ∈ r, w ∈ lw_tbl) {w : Cond} (i : Nat) (h : r[i]? = some w) : w ∈ lw_tbl := hr w (List.mem_of_getElem? h)
theorem lw_g {w : Cond} (h : w ∈ lw_tbl) (g : goodWord w = true) : w ∈ lw_all := List.mem_filter.mpr ⟨h, g⟩
theorem lw_ms : ∀ w ∈ k2_sels lw_privs, w ∈ lw_tbl := fun w h => show w ∈ k2_sels lw_privs ++ tables_1 from List.mem_append_left _ h
theorem lw_m0 : ∀ w ∈ tables_1, w ∈ lw_tbl := fun w h => show w ∈ k2_sels lw_privs ++ tables_1 from List.mem_append_right (k2_sels lw_privs) h
theorem qs0 : (Cond.selects "CardFiles" ⟨"CardFiles", "byteAt", "(II)I"⟩ ⟨"CardFiles", "byteAt", "(II)I"⟩) ∈ lw_all := lw_g (lw_at lw_ms 0 rfl) rfl
theorem qs1 : (Cond.selects "CardFiles" ⟨"CardFiles", "stage", "(I)V"⟩ ⟨"CardFiles", "stage", "(I)V"⟩) ∈ lw_all := lw_g (lw_at lw_ms 1 rfl) rfl
theorem qs2 : (Cond.selects "CardFiles" ⟨"CardFiles", "writeLog", "()V"⟩ ⟨"CardFiles", "writeLog", "()V"⟩) ∈ lw_all := lw_g (lw_at lw_ms 2 rfl) rfl
theorem qs3 : (Cond.selects "CardFiles" ⟨"CardFiles", "bringAllHome", "()V"⟩ ⟨"CardFiles", "bringAllHome", "()V"⟩) ∈ lw_all := lw_g (lw_at lw_ms 3 rfl) rfl
theorem qs4 : (Cond.selects "CardFiles" ⟨"CardFiles", "bringHome", "(I)V"⟩ ⟨"CardFiles", "bringHome", "(I)V"⟩) ∈ lw_all := lw_g (lw_at lw_ms 4 rfl) rfl
theorem qs5 : (Cond.selects "CardFiles" ⟨"CardFiles", "unstage", "()V"⟩ ⟨"CardFiles", "unstage", "()V"⟩) ∈ lw_all := lw_g (lw_at lw_ms 5 rfl) rfl
theorem qs6 : (Cond.selects "CardFiles" ⟨"CardFiles", "refuse", "(II)I"⟩ ⟨"CardFiles", "refuse", "(II)I"⟩) ∈ lw_all := lw_g (lw_at lw_ms 6 rfl) rfl
theorem qs7 : (Cond.selects "CardFiles" ⟨"CardFiles", "start", "()V"⟩ ⟨"CardFiles", "start", "()V"⟩) ∈ lw_all := lw_g (lw_at lw_ms 7 rfl) rfl
theorem qs8 : (Cond.selects "CardFilesModel" ⟨"CardFilesModel", "keep", "()V"⟩ ⟨"CardFilesModel", "keep", "()V"⟩) ∈ lw_all := lw_g (lw_at lw_ms 8 rfl) rfl
theorem qs9 : (Cond.selects "CardFilesModel" ⟨"CardFilesModel", "refuse", "(II)I"⟩ ⟨"CardFilesModel", "refuse", "(II)I"⟩) ∈ lw_all := lw_g (lw_at lw_ms 9 rfl) rfl
end
section
/-! CardFiles -/
set_option maxRecDepth 100000
def RX0 : String := "CardFiles"
def TX0 : u_T := fun k => match k with
  | 0 => ("CardFiles", "home", "[I", true)
  | 1 => ("CardFiles", "mark", "I", false)
  | 2 => ("CardFiles", "logPage", "[I", true)
  | 3 => ("CardFiles", "logByte", "[I", true)
  | 4 => ("CardFiles", "tries", "I", false)
  | 5 => ("CardFiles", "verified", "Z", false)
  | 6 => ("CardFiles", "inTransaction", "Z", false)
  | 7 => ("CardFiles", "staged", "[Z", true)
  | _ => ("CardFiles", "stagedByte", "[I", true)
def tyX0 : Nat → FieldType := fun k => match k with
  | 0 => .array .int
  | 1 => .int
  | 2 => .array .int
  | 3 => .array .int
  | 4 => .int
  | 5 => .boolean
  | 6 => .boolean
  | 7 => .array .boolean
  | _ => .array .int
abbrev wsX00 : List Cond := u_ws RX0 TX0 9
theorem nmX0 : ∀ a, a < 9 → ∀ b, b < 9 → a ≠ b → (TX0 a).2.1 ≠ (TX0 b).2.1 := by decide +kernel
theorem tyX0_ok : ∀ k, k < 9 → parseFieldDescriptor (TX0 k).2.2.1 = some (tyX0 k) := by decide +kernel
abbrev cX0_init : ByteArray := prog_1_method_1_code
def yX0_init : MethodName := ⟨RX0, "<init>", "()V"⟩
theorem dX0_init_0 : decode cX0_init 0 = .ok (.aload_n 0, 1) := by decide +kernel
theorem dX0_init_1 : decode cX0_init 1 = .ok (.invokespecial 1, 3) := by decide +kernel
theorem dX0_init_4 : decode cX0_init 4 = .ok (.aload_n 0, 1) := by decide +kernel
theorem dX0_init_5 : decode cX0_init 5 = .ok (.bipush 112, 2) := by decide +kernel
theorem dX0_init_7 : decode cX0_init 7 = .ok (.newarray .int, 2) := by decide +kernel
theorem dX0_init_9 : decode cX0_init 9 = .ok (.putfield 7, 3) := by decide +kernel
theorem dX0_init_12 : decode cX0_init 12 = .ok (.aload_n 0, 1) := by decide +kernel
theorem dX0_init_13 : decode cX0_init 13 = .ok (.bipush 14, 2) := by decide +kernel
theorem dX0_init_15 : decode cX0_init 15 = .ok (.newarray .int, 2) := by decide +kernel
theorem dX0_init_17 : decode cX0_init 17 = .ok (.putfield 13, 3) := by decide +kernel
theorem dX0_init_20 : decode cX0_init 20 = .ok (.aload_n 0, 1) := by decide +kernel
theorem dX0_init_21 : decode cX0_init 21 = .ok (.bipush 112, 2) := by decide +kernel
theorem dX0_init_23 : decode cX0_init 23 = .ok (.newarray .int, 2) := by decide +kernel
theorem dX0_init_25 : decode cX0_init 25 = .ok (.putfield 16, 3) := by decide +kernel
theorem dX0_init_28 : decode cX0_init 28 = .ok (.aload_n 0, 1) := by decide +kernel
theorem dX0_init_29 : decode cX0_init 29 = .ok (.bipush 14, 2) := by decide +kernel
theorem dX0_init_31 : decode cX0_init 31 = .ok (.newarray .boolean, 2) := by decide +kernel
theorem dX0_init_33 : decode cX0_init 33 = .ok (.putfield 19, 3) := by decide +kernel
theorem dX0_init_36 : decode cX0_init 36 = .ok (.aload_n 0, 1) := by decide +kernel
theorem dX0_init_37 : decode cX0_init 37 = .ok (.bipush 112, 2) := by decide +kernel
theorem dX0_init_39 : decode cX0_init 39 = .ok (.newarray .int, 2) := by decide +kernel
theorem dX0_init_41 : decode cX0_init 41 = .ok (.putfield 23, 3) := by decide +kernel
theorem dX0_init_44 : decode cX0_init 44 = .ok (.aload_n 0, 1) := by decide +kernel
theorem dX0_init_45 : decode cX0_init 45 = .ok (.iconst 3, 1) := by decide +kernel
theorem dX0_init_46 : decode cX0_init 46 = .ok (.putfield 26, 3) := by decide +kernel
theorem dX0_init_49 : decode cX0_init 49 = .ok (.aload_n 0, 1) := by decide +kernel
theorem dX0_init_50 : decode cX0_init 50 = .ok (.getfield 7, 3) := by decide +kernel
theorem dX0_init_53 : decode cX0_init 53 = .ok (.bipush 104, 2) := by decide +kernel
theorem dX0_init_55 : decode cX0_init 55 = .ok (.sipush 210, 3) := by decide +kernel
theorem dX0_init_58 : decode cX0_init 58 = .ok (.iastore, 1) := by decide +kernel
theorem dX0_init_59 : decode cX0_init 59 = .ok (.aload_n 0, 1) := by decide +kernel
theorem dX0_init_60 : decode cX0_init 60 = .ok (.getfield 7, 3) := by decide +kernel
theorem dX0_init_63 : decode cX0_init 63 = .ok (.bipush 105, 2) := by decide +kernel
theorem dX0_init_65 : decode cX0_init 65 = .ok (.iconst 4, 1) := by decide +kernel
theorem dX0_init_66 : decode cX0_init 66 = .ok (.iastore, 1) := by decide +kernel
theorem dX0_init_67 : decode cX0_init 67 = .ok (.return_, 1) := by decide +kernel
abbrev cX0_create : ByteArray := prog_1_method_2_code
def yX0_create : MethodName := ⟨RX0, "create", "(IIZ)I"⟩
theorem dX0_create_0 : decode cX0_create 0 = .ok (.iload_n 1, 1) := by decide +kernel
theorem dX0_create_1 : decode cX0_create 1 = .ok (.ifCond .lt 27, 3) := by decide +kernel
theorem dX0_create_4 : decode cX0_create 4 = .ok (.iload_n 1, 1) := by decide +kernel
theorem dX0_create_5 : decode cX0_create 5 = .ok (.iconst 5, 1) := by decide +kernel
theorem dX0_create_6 : decode cX0_create 6 = .ok (.if_icmp .gt 22, 3) := by decide +kernel
theorem dX0_create_9 : decode cX0_create 9 = .ok (.aload_n 0, 1) := by decide +kernel
theorem dX0_create_10 : decode cX0_create 10 = .ok (.iload_n 1, 1) := by decide +kernel
theorem dX0_create_11 : decode cX0_create 11 = .ok (.invokevirtual 30, 3) := by decide +kernel
theorem dX0_create_14 : decode cX0_create 14 = .ok (.ifCond .gt 14, 3) := by decide +kernel
theorem dX0_create_17 : decode cX0_create 17 = .ok (.iload_n 2, 1) := by decide +kernel
theorem dX0_create_18 : decode cX0_create 18 = .ok (.iconst 1, 1) := by decide +kernel
theorem dX0_create_19 : decode cX0_create 19 = .ok (.if_icmp .lt 9, 3) := by decide +kernel
theorem dX0_create_22 : decode cX0_create 22 = .ok (.iload_n 2, 1) := by decide +kernel
theorem dX0_create_23 : decode cX0_create 23 = .ok (.bipush 16, 2) := by decide +kernel
theorem dX0_create_25 : decode cX0_create 25 = .ok (.if_icmp .le 5, 3) := by decide +kernel
theorem dX0_create_28 : decode cX0_create 28 = .ok (.iconst (-1), 1) := by decide +kernel
theorem dX0_create_29 : decode cX0_create 29 = .ok (.ireturn, 1) := by decide +kernel
theorem dX0_create_30 : decode cX0_create 30 = .ok (.aload_n 0, 1) := by decide +kernel
theorem dX0_create_31 : decode cX0_create 31 = .ok (.getfield 34, 3) := by decide +kernel
theorem dX0_create_34 : decode cX0_create 34 = .ok (.ifCond .eq 6, 3) := by decide +kernel
theorem dX0_create_37 : decode cX0_create 37 = .ok (.bipush (-2), 2) := by decide +kernel
theorem dX0_create_39 : decode cX0_create 39 = .ok (.ireturn, 1) := by decide +kernel
theorem dX0_create_40 : decode cX0_create 40 = .ok (.aload_n 0, 1) := by decide +kernel
theorem dX0_create_41 : decode cX0_create 41 = .ok (.bipush 12, 2) := by decide +kernel
theorem dX0_create_43 : decode cX0_create 43 = .ok (.invokevirtual 38, 3) := by decide +kernel
theorem dX0_create_46 : decode cX0_create 46 = .ok (.aload_n 0, 1) := by decide +kernel
theorem dX0_create_47 : decode cX0_create 47 = .ok (.getfield 23, 3) := by decide +kernel
theorem dX0_create_50 : decode cX0_create 50 = .ok (.bipush 96, 2) := by decide +kernel
theorem dX0_create_52 : decode cX0_create 52 = .ok (.iload_n 1, 1) := by decide +kernel
theorem dX0_create_53 : decode cX0_create 53 = .ok (.iadd, 1) := by decide +kernel
theorem dX0_create_54 : decode cX0_create 54 = .ok (.iload_n 2, 1) := by decide +kernel
theorem dX0_create_55 : decode cX0_create 55 = .ok (.iload_n 3, 1) := by decide +kernel
theorem dX0_create_56 : decode cX0_create 56 = .ok (.ifCond .eq 8, 3) := by decide +kernel
theorem dX0_create_59 : decode cX0_create 59 = .ok (.bipush 32, 2) := by decide +kernel
theorem dX0_create_61 : decode cX0_create 61 = .ok (.goto 4, 3) := by decide +kernel
theorem dX0_create_64 : decode cX0_create 64 = .ok (.iconst 0, 1) := by decide +kernel
theorem dX0_create_65 : decode cX0_create 65 = .ok (.iadd, 1) := by decide +kernel
theorem dX0_create_66 : decode cX0_create 66 = .ok (.iastore, 1) := by decide +kernel
theorem dX0_create_67 : decode cX0_create 67 = .ok (.aload_n 0, 1) := by decide +kernel
theorem dX0_create_68 : decode cX0_create 68 = .ok (.invokevirtual 42, 3) := by decide +kernel
theorem dX0_create_71 : decode cX0_create 71 = .ok (.iconst 0, 1) := by decide +kernel
theorem dX0_create_72 : decode cX0_create 72 = .ok (.ireturn, 1) := by decide +kernel
abbrev cX0_size : ByteArray := prog_1_method_12_code
def yX0_size : MethodName := ⟨RX0, "size", "(I)I"⟩
theorem dX0_size_0 : decode cX0_size 0 = .ok (.iload_n 1, 1) := by decide +kernel
theorem dX0_size_1 : decode cX0_size 1 = .ok (.ifCond .lt 8, 3) := by decide +kernel
theorem dX0_size_4 : decode cX0_size 4 = .ok (.iload_n 1, 1) := by decide +kernel
theorem dX0_size_5 : decode cX0_size 5 = .ok (.iconst 5, 1) := by decide +kernel
theorem dX0_size_6 : decode cX0_size 6 = .ok (.if_icmp .le 7, 3) := by decide +kernel
theorem dX0_size_9 : decode cX0_size 9 = .ok (.iconst 0, 1) := by decide +kernel
theorem dX0_size_10 : decode cX0_size 10 = .ok (.goto 13, 3) := by decide +kernel
theorem dX0_size_13 : decode cX0_size 13 = .ok (.aload_n 0, 1) := by decide +kernel
theorem dX0_size_14 : decode cX0_size 14 = .ok (.bipush 12, 2) := by decide +kernel
theorem dX0_size_16 : decode cX0_size 16 = .ok (.iload_n 1, 1) := by decide +kernel
theorem dX0_size_17 : decode cX0_size 17 = .ok (.invokevirtual 49, 3) := by decide +kernel
theorem dX0_size_20 : decode cX0_size 20 = .ok (.bipush 31, 2) := by decide +kernel
theorem dX0_size_22 : decode cX0_size 22 = .ok (.iand, 1) := by decide +kernel
theorem dX0_size_23 : decode cX0_size 23 = .ok (.ireturn, 1) := by decide +kernel
abbrev cX0_byteAt : ByteArray := prog_1_method_15_code
def yX0_byteAt : MethodName := ⟨RX0, "byteAt", "(II)I"⟩
theorem dX0_byteAt_0 : decode cX0_byteAt 0 = .ok (.aload_n 0, 1) := by decide +kernel
theorem dX0_byteAt_1 : decode cX0_byteAt 1 = .ok (.getfield 19, 3) := by decide +kernel
theorem dX0_byteAt_4 : decode cX0_byteAt 4 = .ok (.iload_n 1, 1) := by decide +kernel
theorem dX0_byteAt_5 : decode cX0_byteAt 5 = .ok (.baload, 1) := by decide +kernel
theorem dX0_byteAt_6 : decode cX0_byteAt 6 = .ok (.ifCond .eq 15, 3) := by decide +kernel
theorem dX0_byteAt_9 : decode cX0_byteAt 9 = .ok (.aload_n 0, 1) := by decide +kernel
theorem dX0_byteAt_10 : decode cX0_byteAt 10 = .ok (.getfield 23, 3) := by decide +kernel
theorem dX0_byteAt_13 : decode cX0_byteAt 13 = .ok (.bipush 8, 2) := by decide +kernel
theorem dX0_byteAt_15 : decode cX0_byteAt 15 = .ok (.iload_n 1, 1) := by decide +kernel
theorem dX0_byteAt_16 : decode cX0_byteAt 16 = .ok (.imul, 1) := by decide +kernel
theorem dX0_byteAt_17 : decode cX0_byteAt 17 = .ok (.iload_n 2, 1) := by decide +kernel
theorem dX0_byteAt_18 : decode cX0_byteAt 18 = .ok (.iadd, 1) := by decide +kernel
theorem dX0_byteAt_19 : decode cX0_byteAt 19 = .ok (.iaload, 1) := by decide +kernel
theorem dX0_byteAt_20 : decode cX0_byteAt 20 = .ok (.ireturn, 1) := by decide +kernel
theorem dX0_byteAt_21 : decode cX0_byteAt 21 = .ok (.iconst 0, 1) := by decide +kernel
theorem dX0_byteAt_22 : decode cX0_byteAt 22 = .ok (.istore_n 3, 1) := by decide +kernel
theorem dX0_byteAt_23 : decode cX0_byteAt 23 = .ok (.iload_n 3, 1) := by decide +kernel
theorem dX0_byteAt_24 : decode cX0_byteAt 24 = .ok (.aload_n 0, 1) := by decide +kernel
theorem dX0_byteAt_25 : decode cX0_byteAt 25 = .ok (.getfield 61, 3) := by decide +kernel
theorem dX0_byteAt_28 : decode cX0_byteAt 28 = .ok (.if_icmp .ge 31, 3) := by decide +kernel
theorem dX0_byteAt_31 : decode cX0_byteAt 31 = .ok (.aload_n 0, 1) := by decide +kernel
theorem dX0_byteAt_32 : decode cX0_byteAt 32 = .ok (.getfield 13, 3) := by decide +kernel
theorem dX0_byteAt_35 : decode cX0_byteAt 35 = .ok (.iload_n 3, 1) := by decide +kernel
theorem dX0_byteAt_36 : decode cX0_byteAt 36 = .ok (.iaload, 1) := by decide +kernel
theorem dX0_byteAt_37 : decode cX0_byteAt 37 = .ok (.iload_n 1, 1) := by decide +kernel
theorem dX0_byteAt_38 : decode cX0_byteAt 38 = .ok (.if_icmp .ne 15, 3) := by decide +kernel
theorem dX0_byteAt_41 : decode cX0_byteAt 41 = .ok (.aload_n 0, 1) := by decide +kernel
theorem dX0_byteAt_42 : decode cX0_byteAt 42 = .ok (.getfield 16, 3) := by decide +kernel
theorem dX0_byteAt_45 : decode cX0_byteAt 45 = .ok (.bipush 8, 2) := by decide +kernel
theorem dX0_byteAt_47 : decode cX0_byteAt 47 = .ok (.iload_n 3, 1) := by decide +kernel
theorem dX0_byteAt_48 : decode cX0_byteAt 48 = .ok (.imul, 1) := by decide +kernel
theorem dX0_byteAt_49 : decode cX0_byteAt 49 = .ok (.iload_n 2, 1) := by decide +kernel
theorem dX0_byteAt_50 : decode cX0_byteAt 50 = .ok (.iadd, 1) := by decide +kernel
theorem dX0_byteAt_51 : decode cX0_byteAt 51 = .ok (.iaload, 1) := by decide +kernel
theorem dX0_byteAt_52 : decode cX0_byteAt 52 = .ok (.ireturn, 1) := by decide +kernel
theorem dX0_byteAt_53 : decode cX0_byteAt 53 = .ok (.iinc 3 1, 3) := by decide +kernel
theorem dX0_byteAt_56 : decode cX0_byteAt 56 = .ok (.goto (-33), 3) := by decide +kernel
theorem dX0_byteAt_59 : decode cX0_byteAt 59 = .ok (.aload_n 0, 1) := by decide +kernel
theorem dX0_byteAt_60 : decode cX0_byteAt 60 = .ok (.getfield 7, 3) := by decide +kernel
theorem dX0_byteAt_63 : decode cX0_byteAt 63 = .ok (.bipush 8, 2) := by decide +kernel
theorem dX0_byteAt_65 : decode cX0_byteAt 65 = .ok (.iload_n 1, 1) := by decide +kernel
theorem dX0_byteAt_66 : decode cX0_byteAt 66 = .ok (.imul, 1) := by decide +kernel
theorem dX0_byteAt_67 : decode cX0_byteAt 67 = .ok (.iload_n 2, 1) := by decide +kernel
theorem dX0_byteAt_68 : decode cX0_byteAt 68 = .ok (.iadd, 1) := by decide +kernel
theorem dX0_byteAt_69 : decode cX0_byteAt 69 = .ok (.iaload, 1) := by decide +kernel
theorem dX0_byteAt_70 : decode cX0_byteAt 70 = .ok (.ireturn, 1) := by decide +kernel
abbrev cX0_stage : ByteArray := prog_1_method_16_code
def yX0_stage : MethodName := ⟨RX0, "stage", "(I)V"⟩
theorem dX0_stage_0 : decode cX0_stage 0 = .ok (.aload_n 0, 1) := by decide +kernel
theorem dX0_stage_1 : decode cX0_stage 1 = .ok (.getfield 19, 3) := by decide +kernel
theorem dX0_stage_4 : decode cX0_stage 4 = .ok (.iload_n 1, 1) := by decide +kernel
theorem dX0_stage_5 : decode cX0_stage 5 = .ok (.baload, 1) := by decide +kernel
theorem dX0_stage_6 : decode cX0_stage 6 = .ok (.ifCond .eq 4, 3) := by decide +kernel
theorem dX0_stage_9 : decode cX0_stage 9 = .ok (.return_, 1) := by decide +kernel
theorem dX0_stage_10 : decode cX0_stage 10 = .ok (.iconst 0, 1) := by decide +kernel
theorem dX0_stage_11 : decode cX0_stage 11 = .ok (.istore_n 2, 1) := by decide +kernel
theorem dX0_stage_12 : decode cX0_stage 12 = .ok (.iload_n 2, 1) := by decide +kernel
theorem dX0_stage_13 : decode cX0_stage 13 = .ok (.bipush 8, 2) := by decide +kernel
theorem dX0_stage_15 : decode cX0_stage 15 = .ok (.if_icmp .ge 26, 3) := by decide +kernel
theorem dX0_stage_18 : decode cX0_stage 18 = .ok (.aload_n 0, 1) := by decide +kernel
theorem dX0_stage_19 : decode cX0_stage 19 = .ok (.getfield 23, 3) := by decide +kernel
theorem dX0_stage_22 : decode cX0_stage 22 = .ok (.bipush 8, 2) := by decide +kernel
theorem dX0_stage_24 : decode cX0_stage 24 = .ok (.iload_n 1, 1) := by decide +kernel
theorem dX0_stage_25 : decode cX0_stage 25 = .ok (.imul, 1) := by decide +kernel
theorem dX0_stage_26 : decode cX0_stage 26 = .ok (.iload_n 2, 1) := by decide +kernel
theorem dX0_stage_27 : decode cX0_stage 27 = .ok (.iadd, 1) := by decide +kernel
theorem dX0_stage_28 : decode cX0_stage 28 = .ok (.aload_n 0, 1) := by decide +kernel
theorem dX0_stage_29 : decode cX0_stage 29 = .ok (.iload_n 1, 1) := by decide +kernel
theorem dX0_stage_30 : decode cX0_stage 30 = .ok (.iload_n 2, 1) := by decide +kernel
theorem dX0_stage_31 : decode cX0_stage 31 = .ok (.invokevirtual 49, 3) := by decide +kernel
theorem dX0_stage_34 : decode cX0_stage 34 = .ok (.iastore, 1) := by decide +kernel
theorem dX0_stage_35 : decode cX0_stage 35 = .ok (.iinc 2 1, 3) := by decide +kernel
theorem dX0_stage_38 : decode cX0_stage 38 = .ok (.goto (-26), 3) := by decide +kernel
theorem dX0_stage_41 : decode cX0_stage 41 = .ok (.aload_n 0, 1) := by decide +kernel
theorem dX0_stage_42 : decode cX0_stage 42 = .ok (.getfield 19, 3) := by decide +kernel
theorem dX0_stage_45 : decode cX0_stage 45 = .ok (.iload_n 1, 1) := by decide +kernel
theorem dX0_stage_46 : decode cX0_stage 46 = .ok (.iconst 1, 1) := by decide +kernel
theorem dX0_stage_47 : decode cX0_stage 47 = .ok (.bastore, 1) := by decide +kernel
theorem dX0_stage_48 : decode cX0_stage 48 = .ok (.return_, 1) := by decide +kernel
abbrev cX0_writeLog : ByteArray := prog_1_method_18_code
def yX0_writeLog : MethodName := ⟨RX0, "writeLog", "()V"⟩
theorem dX0_writeLog_0 : decode cX0_writeLog 0 = .ok (.aload_n 0, 1) := by decide +kernel
theorem dX0_writeLog_1 : decode cX0_writeLog 1 = .ok (.invokevirtual 67, 3) := by decide +kernel
theorem dX0_writeLog_4 : decode cX0_writeLog 4 = .ok (.iconst 0, 1) := by decide +kernel
theorem dX0_writeLog_5 : decode cX0_writeLog 5 = .ok (.istore_n 1, 1) := by decide +kernel
theorem dX0_writeLog_6 : decode cX0_writeLog 6 = .ok (.iconst 0, 1) := by decide +kernel
theorem dX0_writeLog_7 : decode cX0_writeLog 7 = .ok (.istore_n 2, 1) := by decide +kernel
theorem dX0_writeLog_8 : decode cX0_writeLog 8 = .ok (.iload_n 2, 1) := by decide +kernel
theorem dX0_writeLog_9 : decode cX0_writeLog 9 = .ok (.bipush 14, 2) := by decide +kernel
theorem dX0_writeLog_11 : decode cX0_writeLog 11 = .ok (.if_icmp .ge 64, 3) := by decide +kernel
theorem dX0_writeLog_14 : decode cX0_writeLog 14 = .ok (.aload_n 0, 1) := by decide +kernel
theorem dX0_writeLog_15 : decode cX0_writeLog 15 = .ok (.getfield 19, 3) := by decide +kernel
theorem dX0_writeLog_18 : decode cX0_writeLog 18 = .ok (.iload_n 2, 1) := by decide +kernel
theorem dX0_writeLog_19 : decode cX0_writeLog 19 = .ok (.baload, 1) := by decide +kernel
theorem dX0_writeLog_20 : decode cX0_writeLog 20 = .ok (.ifCond .eq 49, 3) := by decide +kernel
theorem dX0_writeLog_23 : decode cX0_writeLog 23 = .ok (.aload_n 0, 1) := by decide +kernel
theorem dX0_writeLog_24 : decode cX0_writeLog 24 = .ok (.getfield 13, 3) := by decide +kernel
theorem dX0_writeLog_27 : decode cX0_writeLog 27 = .ok (.iload_n 1, 1) := by decide +kernel
theorem dX0_writeLog_28 : decode cX0_writeLog 28 = .ok (.iload_n 2, 1) := by decide +kernel
theorem dX0_writeLog_29 : decode cX0_writeLog 29 = .ok (.iastore, 1) := by decide +kernel
theorem dX0_writeLog_30 : decode cX0_writeLog 30 = .ok (.iconst 0, 1) := by decide +kernel
theorem dX0_writeLog_31 : decode cX0_writeLog 31 = .ok (.istore_n 3, 1) := by decide +kernel
theorem dX0_writeLog_32 : decode cX0_writeLog 32 = .ok (.iload_n 3, 1) := by decide +kernel
theorem dX0_writeLog_33 : decode cX0_writeLog 33 = .ok (.bipush 8, 2) := by decide +kernel
theorem dX0_writeLog_35 : decode cX0_writeLog 35 = .ok (.if_icmp .ge 31, 3) := by decide +kernel
theorem dX0_writeLog_38 : decode cX0_writeLog 38 = .ok (.aload_n 0, 1) := by decide +kernel
theorem dX0_writeLog_39 : decode cX0_writeLog 39 = .ok (.getfield 16, 3) := by decide +kernel
theorem dX0_writeLog_42 : decode cX0_writeLog 42 = .ok (.bipush 8, 2) := by decide +kernel
theorem dX0_writeLog_44 : decode cX0_writeLog 44 = .ok (.iload_n 1, 1) := by decide +kernel
theorem dX0_writeLog_45 : decode cX0_writeLog 45 = .ok (.imul, 1) := by decide +kernel
theorem dX0_writeLog_46 : decode cX0_writeLog 46 = .ok (.iload_n 3, 1) := by decide +kernel
theorem dX0_writeLog_47 : decode cX0_writeLog 47 = .ok (.iadd, 1) := by decide +kernel
theorem dX0_writeLog_48 : decode cX0_writeLog 48 = .ok (.aload_n 0, 1) := by decide +kernel
theorem dX0_writeLog_49 : decode cX0_writeLog 49 = .ok (.getfield 23, 3) := by decide +kernel
theorem dX0_writeLog_52 : decode cX0_writeLog 52 = .ok (.bipush 8, 2) := by decide +kernel
theorem dX0_writeLog_54 : decode cX0_writeLog 54 = .ok (.iload_n 2, 1) := by decide +kernel
theorem dX0_writeLog_55 : decode cX0_writeLog 55 = .ok (.imul, 1) := by decide +kernel
theorem dX0_writeLog_56 : decode cX0_writeLog 56 = .ok (.iload_n 3, 1) := by decide +kernel
theorem dX0_writeLog_57 : decode cX0_writeLog 57 = .ok (.iadd, 1) := by decide +kernel
theorem dX0_writeLog_58 : decode cX0_writeLog 58 = .ok (.iaload, 1) := by decide +kernel
theorem dX0_writeLog_59 : decode cX0_writeLog 59 = .ok (.iastore, 1) := by decide +kernel
theorem dX0_writeLog_60 : decode cX0_writeLog 60 = .ok (.iinc 3 1, 3) := by decide +kernel
theorem dX0_writeLog_63 : decode cX0_writeLog 63 = .ok (.goto (-31), 3) := by decide +kernel
theorem dX0_writeLog_66 : decode cX0_writeLog 66 = .ok (.iinc 1 1, 3) := by decide +kernel
theorem dX0_writeLog_69 : decode cX0_writeLog 69 = .ok (.iinc 2 1, 3) := by decide +kernel
theorem dX0_writeLog_72 : decode cX0_writeLog 72 = .ok (.goto (-64), 3) := by decide +kernel
theorem dX0_writeLog_75 : decode cX0_writeLog 75 = .ok (.aload_n 0, 1) := by decide +kernel
theorem dX0_writeLog_76 : decode cX0_writeLog 76 = .ok (.iload_n 1, 1) := by decide +kernel
theorem dX0_writeLog_77 : decode cX0_writeLog 77 = .ok (.putfield 61, 3) := by decide +kernel
theorem dX0_writeLog_80 : decode cX0_writeLog 80 = .ok (.aload_n 0, 1) := by decide +kernel
theorem dX0_writeLog_81 : decode cX0_writeLog 81 = .ok (.invokevirtual 52, 3) := by decide +kernel
theorem dX0_writeLog_84 : decode cX0_writeLog 84 = .ok (.return_, 1) := by decide +kernel
abbrev cX0_bringAllHome : ByteArray := prog_1_method_20_code
def yX0_bringAllHome : MethodName := ⟨RX0, "bringAllHome", "()V"⟩
theorem dX0_bringAllHome_0 : decode cX0_bringAllHome 0 = .ok (.iconst 0, 1) := by decide +kernel
theorem dX0_bringAllHome_1 : decode cX0_bringAllHome 1 = .ok (.istore_n 1, 1) := by decide +kernel
theorem dX0_bringAllHome_2 : decode cX0_bringAllHome 2 = .ok (.iload_n 1, 1) := by decide +kernel
theorem dX0_bringAllHome_3 : decode cX0_bringAllHome 3 = .ok (.aload_n 0, 1) := by decide +kernel
theorem dX0_bringAllHome_4 : decode cX0_bringAllHome 4 = .ok (.getfield 61, 3) := by decide +kernel
theorem dX0_bringAllHome_7 : decode cX0_bringAllHome 7 = .ok (.if_icmp .ge 14, 3) := by decide +kernel
theorem dX0_bringAllHome_10 : decode cX0_bringAllHome 10 = .ok (.aload_n 0, 1) := by decide +kernel
theorem dX0_bringAllHome_11 : decode cX0_bringAllHome 11 = .ok (.iload_n 1, 1) := by decide +kernel
theorem dX0_bringAllHome_12 : decode cX0_bringAllHome 12 = .ok (.invokevirtual 64, 3) := by decide +kernel
theorem dX0_bringAllHome_15 : decode cX0_bringAllHome 15 = .ok (.iinc 1 1, 3) := by decide +kernel
theorem dX0_bringAllHome_18 : decode cX0_bringAllHome 18 = .ok (.goto (-16), 3) := by decide +kernel
theorem dX0_bringAllHome_21 : decode cX0_bringAllHome 21 = .ok (.aload_n 0, 1) := by decide +kernel
theorem dX0_bringAllHome_22 : decode cX0_bringAllHome 22 = .ok (.iconst 0, 1) := by decide +kernel
theorem dX0_bringAllHome_23 : decode cX0_bringAllHome 23 = .ok (.putfield 61, 3) := by decide +kernel
theorem dX0_bringAllHome_26 : decode cX0_bringAllHome 26 = .ok (.return_, 1) := by decide +kernel
abbrev cX0_bringHome : ByteArray := prog_1_method_19_code
def yX0_bringHome : MethodName := ⟨RX0, "bringHome", "(I)V"⟩
theorem dX0_bringHome_0 : decode cX0_bringHome 0 = .ok (.iconst 0, 1) := by decide +kernel
theorem dX0_bringHome_1 : decode cX0_bringHome 1 = .ok (.istore_n 2, 1) := by decide +kernel
theorem dX0_bringHome_2 : decode cX0_bringHome 2 = .ok (.iload_n 2, 1) := by decide +kernel
theorem dX0_bringHome_3 : decode cX0_bringHome 3 = .ok (.bipush 8, 2) := by decide +kernel
theorem dX0_bringHome_5 : decode cX0_bringHome 5 = .ok (.if_icmp .ge 36, 3) := by decide +kernel
theorem dX0_bringHome_8 : decode cX0_bringHome 8 = .ok (.aload_n 0, 1) := by decide +kernel
theorem dX0_bringHome_9 : decode cX0_bringHome 9 = .ok (.getfield 7, 3) := by decide +kernel
theorem dX0_bringHome_12 : decode cX0_bringHome 12 = .ok (.bipush 8, 2) := by decide +kernel
theorem dX0_bringHome_14 : decode cX0_bringHome 14 = .ok (.aload_n 0, 1) := by decide +kernel
theorem dX0_bringHome_15 : decode cX0_bringHome 15 = .ok (.getfield 13, 3) := by decide +kernel
theorem dX0_bringHome_18 : decode cX0_bringHome 18 = .ok (.iload_n 1, 1) := by decide +kernel
theorem dX0_bringHome_19 : decode cX0_bringHome 19 = .ok (.iaload, 1) := by decide +kernel
theorem dX0_bringHome_20 : decode cX0_bringHome 20 = .ok (.imul, 1) := by decide +kernel
theorem dX0_bringHome_21 : decode cX0_bringHome 21 = .ok (.iload_n 2, 1) := by decide +kernel
theorem dX0_bringHome_22 : decode cX0_bringHome 22 = .ok (.iadd, 1) := by decide +kernel
theorem dX0_bringHome_23 : decode cX0_bringHome 23 = .ok (.aload_n 0, 1) := by decide +kernel
theorem dX0_bringHome_24 : decode cX0_bringHome 24 = .ok (.getfield 16, 3) := by decide +kernel
theorem dX0_bringHome_27 : decode cX0_bringHome 27 = .ok (.bipush 8, 2) := by decide +kernel
theorem dX0_bringHome_29 : decode cX0_bringHome 29 = .ok (.iload_n 1, 1) := by decide +kernel
theorem dX0_bringHome_30 : decode cX0_bringHome 30 = .ok (.imul, 1) := by decide +kernel
theorem dX0_bringHome_31 : decode cX0_bringHome 31 = .ok (.iload_n 2, 1) := by decide +kernel
theorem dX0_bringHome_32 : decode cX0_bringHome 32 = .ok (.iadd, 1) := by decide +kernel
theorem dX0_bringHome_33 : decode cX0_bringHome 33 = .ok (.iaload, 1) := by decide +kernel
theorem dX0_bringHome_34 : decode cX0_bringHome 34 = .ok (.iastore, 1) := by decide +kernel
theorem dX0_bringHome_35 : decode cX0_bringHome 35 = .ok (.iinc 2 1, 3) := by decide +kernel
theorem dX0_bringHome_38 : decode cX0_bringHome 38 = .ok (.goto (-36), 3) := by decide +kernel
theorem dX0_bringHome_41 : decode cX0_bringHome 41 = .ok (.return_, 1) := by decide +kernel
abbrev cX0_unstage : ByteArray := prog_1_method_17_code
def yX0_unstage : MethodName := ⟨RX0, "unstage", "()V"⟩
theorem dX0_unstage_0 : decode cX0_unstage 0 = .ok (.iconst 0, 1) := by decide +kernel
theorem dX0_unstage_1 : decode cX0_unstage 1 = .ok (.istore_n 1, 1) := by decide +kernel
theorem dX0_unstage_2 : decode cX0_unstage 2 = .ok (.iload_n 1, 1) := by decide +kernel
theorem dX0_unstage_3 : decode cX0_unstage 3 = .ok (.bipush 14, 2) := by decide +kernel
theorem dX0_unstage_5 : decode cX0_unstage 5 = .ok (.if_icmp .ge 16, 3) := by decide +kernel
theorem dX0_unstage_8 : decode cX0_unstage 8 = .ok (.aload_n 0, 1) := by decide +kernel
theorem dX0_unstage_9 : decode cX0_unstage 9 = .ok (.getfield 19, 3) := by decide +kernel
theorem dX0_unstage_12 : decode cX0_unstage 12 = .ok (.iload_n 1, 1) := by decide +kernel
theorem dX0_unstage_13 : decode cX0_unstage 13 = .ok (.iconst 0, 1) := by decide +kernel
theorem dX0_unstage_14 : decode cX0_unstage 14 = .ok (.bastore, 1) := by decide +kernel
theorem dX0_unstage_15 : decode cX0_unstage 15 = .ok (.iinc 1 1, 3) := by decide +kernel
theorem dX0_unstage_18 : decode cX0_unstage 18 = .ok (.goto (-16), 3) := by decide +kernel
theorem dX0_unstage_21 : decode cX0_unstage 21 = .ok (.return_, 1) := by decide +kernel
abbrev cX0_update : ByteArray := prog_1_method_3_code
def yX0_update : MethodName := ⟨RX0, "update", "(III)I"⟩
theorem dX0_update_0 : decode cX0_update 0 = .ok (.aload_n 0, 1) := by decide +kernel
theorem dX0_update_1 : decode cX0_update 1 = .ok (.iload_n 1, 1) := by decide +kernel
theorem dX0_update_2 : decode cX0_update 2 = .ok (.iload_n 2, 1) := by decide +kernel
theorem dX0_update_3 : decode cX0_update 3 = .ok (.invokevirtual 45, 3) := by decide +kernel
theorem dX0_update_6 : decode cX0_update 6 = .ok (.istore 4, 2) := by decide +kernel
theorem dX0_update_8 : decode cX0_update 8 = .ok (.iload 4, 2) := by decide +kernel
theorem dX0_update_10 : decode cX0_update 10 = .ok (.ifCond .eq 6, 3) := by decide +kernel
theorem dX0_update_13 : decode cX0_update 13 = .ok (.iload 4, 2) := by decide +kernel
theorem dX0_update_15 : decode cX0_update 15 = .ok (.ireturn, 1) := by decide +kernel
theorem dX0_update_16 : decode cX0_update 16 = .ok (.iconst 2, 1) := by decide +kernel
theorem dX0_update_17 : decode cX0_update 17 = .ok (.iload_n 1, 1) := by decide +kernel
theorem dX0_update_18 : decode cX0_update 18 = .ok (.imul, 1) := by decide +kernel
theorem dX0_update_19 : decode cX0_update 19 = .ok (.iload_n 2, 1) := by decide +kernel
theorem dX0_update_20 : decode cX0_update 20 = .ok (.iconst 3, 1) := by decide +kernel
theorem dX0_update_21 : decode cX0_update 21 = .ok (.ishr, 1) := by decide +kernel
theorem dX0_update_22 : decode cX0_update 22 = .ok (.iadd, 1) := by decide +kernel
theorem dX0_update_23 : decode cX0_update 23 = .ok (.istore 5, 2) := by decide +kernel
theorem dX0_update_25 : decode cX0_update 25 = .ok (.aload_n 0, 1) := by decide +kernel
theorem dX0_update_26 : decode cX0_update 26 = .ok (.iload 5, 2) := by decide +kernel
theorem dX0_update_28 : decode cX0_update 28 = .ok (.invokevirtual 38, 3) := by decide +kernel
theorem dX0_update_31 : decode cX0_update 31 = .ok (.aload_n 0, 1) := by decide +kernel
theorem dX0_update_32 : decode cX0_update 32 = .ok (.getfield 23, 3) := by decide +kernel
theorem dX0_update_35 : decode cX0_update 35 = .ok (.bipush 8, 2) := by decide +kernel
theorem dX0_update_37 : decode cX0_update 37 = .ok (.iload 5, 2) := by decide +kernel
theorem dX0_update_39 : decode cX0_update 39 = .ok (.imul, 1) := by decide +kernel
theorem dX0_update_40 : decode cX0_update 40 = .ok (.iload_n 2, 1) := by decide +kernel
theorem dX0_update_41 : decode cX0_update 41 = .ok (.bipush 7, 2) := by decide +kernel
theorem dX0_update_43 : decode cX0_update 43 = .ok (.iand, 1) := by decide +kernel
theorem dX0_update_44 : decode cX0_update 44 = .ok (.iadd, 1) := by decide +kernel
theorem dX0_update_45 : decode cX0_update 45 = .ok (.iload_n 3, 1) := by decide +kernel
theorem dX0_update_46 : decode cX0_update 46 = .ok (.sipush 255, 3) := by decide +kernel
theorem dX0_update_49 : decode cX0_update 49 = .ok (.iand, 1) := by decide +kernel
theorem dX0_update_50 : decode cX0_update 50 = .ok (.iastore, 1) := by decide +kernel
theorem dX0_update_51 : decode cX0_update 51 = .ok (.aload_n 0, 1) := by decide +kernel
theorem dX0_update_52 : decode cX0_update 52 = .ok (.getfield 34, 3) := by decide +kernel
theorem dX0_update_55 : decode cX0_update 55 = .ok (.ifCond .ne 7, 3) := by decide +kernel
theorem dX0_update_58 : decode cX0_update 58 = .ok (.aload_n 0, 1) := by decide +kernel
theorem dX0_update_59 : decode cX0_update 59 = .ok (.invokevirtual 42, 3) := by decide +kernel
theorem dX0_update_62 : decode cX0_update 62 = .ok (.iconst 0, 1) := by decide +kernel
theorem dX0_update_63 : decode cX0_update 63 = .ok (.ireturn, 1) := by decide +kernel
abbrev cX0_refuse : ByteArray := prog_1_method_14_code
def yX0_refuse : MethodName := ⟨RX0, "refuse", "(II)I"⟩
theorem dX0_refuse_0 : decode cX0_refuse 0 = .ok (.iload_n 1, 1) := by decide +kernel
theorem dX0_refuse_1 : decode cX0_refuse 1 = .ok (.ifCond .lt 21, 3) := by decide +kernel
theorem dX0_refuse_4 : decode cX0_refuse 4 = .ok (.iload_n 1, 1) := by decide +kernel
theorem dX0_refuse_5 : decode cX0_refuse 5 = .ok (.iconst 5, 1) := by decide +kernel
theorem dX0_refuse_6 : decode cX0_refuse 6 = .ok (.if_icmp .gt 16, 3) := by decide +kernel
theorem dX0_refuse_9 : decode cX0_refuse 9 = .ok (.iload_n 2, 1) := by decide +kernel
theorem dX0_refuse_10 : decode cX0_refuse 10 = .ok (.ifCond .lt 12, 3) := by decide +kernel
theorem dX0_refuse_13 : decode cX0_refuse 13 = .ok (.iload_n 2, 1) := by decide +kernel
theorem dX0_refuse_14 : decode cX0_refuse 14 = .ok (.aload_n 0, 1) := by decide +kernel
theorem dX0_refuse_15 : decode cX0_refuse 15 = .ok (.iload_n 1, 1) := by decide +kernel
theorem dX0_refuse_16 : decode cX0_refuse 16 = .ok (.invokevirtual 30, 3) := by decide +kernel
theorem dX0_refuse_19 : decode cX0_refuse 19 = .ok (.if_icmp .lt 5, 3) := by decide +kernel
theorem dX0_refuse_22 : decode cX0_refuse 22 = .ok (.iconst (-1), 1) := by decide +kernel
theorem dX0_refuse_23 : decode cX0_refuse 23 = .ok (.ireturn, 1) := by decide +kernel
theorem dX0_refuse_24 : decode cX0_refuse 24 = .ok (.aload_n 0, 1) := by decide +kernel
theorem dX0_refuse_25 : decode cX0_refuse 25 = .ok (.bipush 12, 2) := by decide +kernel
theorem dX0_refuse_27 : decode cX0_refuse 27 = .ok (.iload_n 1, 1) := by decide +kernel
theorem dX0_refuse_28 : decode cX0_refuse 28 = .ok (.invokevirtual 49, 3) := by decide +kernel
theorem dX0_refuse_31 : decode cX0_refuse 31 = .ok (.bipush 32, 2) := by decide +kernel
theorem dX0_refuse_33 : decode cX0_refuse 33 = .ok (.iand, 1) := by decide +kernel
theorem dX0_refuse_34 : decode cX0_refuse 34 = .ok (.ifCond .eq 7, 3) := by decide +kernel
theorem dX0_refuse_37 : decode cX0_refuse 37 = .ok (.iconst 1, 1) := by decide +kernel
theorem dX0_refuse_38 : decode cX0_refuse 38 = .ok (.goto 4, 3) := by decide +kernel
theorem dX0_refuse_41 : decode cX0_refuse 41 = .ok (.iconst 0, 1) := by decide +kernel
theorem dX0_refuse_42 : decode cX0_refuse 42 = .ok (.istore_n 3, 1) := by decide +kernel
theorem dX0_refuse_43 : decode cX0_refuse 43 = .ok (.iload_n 3, 1) := by decide +kernel
theorem dX0_refuse_44 : decode cX0_refuse 44 = .ok (.ifCond .eq 15, 3) := by decide +kernel
theorem dX0_refuse_47 : decode cX0_refuse 47 = .ok (.aload_n 0, 1) := by decide +kernel
theorem dX0_refuse_48 : decode cX0_refuse 48 = .ok (.getfield 55, 3) := by decide +kernel
theorem dX0_refuse_51 : decode cX0_refuse 51 = .ok (.ifCond .ne 8, 3) := by decide +kernel
theorem dX0_refuse_54 : decode cX0_refuse 54 = .ok (.bipush (-3), 2) := by decide +kernel
theorem dX0_refuse_56 : decode cX0_refuse 56 = .ok (.goto 4, 3) := by decide +kernel
theorem dX0_refuse_59 : decode cX0_refuse 59 = .ok (.iconst 0, 1) := by decide +kernel
theorem dX0_refuse_60 : decode cX0_refuse 60 = .ok (.ireturn, 1) := by decide +kernel
abbrev cX0_read : ByteArray := prog_1_method_4_code
def yX0_read : MethodName := ⟨RX0, "read", "(II)I"⟩
theorem dX0_read_0 : decode cX0_read 0 = .ok (.aload_n 0, 1) := by decide +kernel
theorem dX0_read_1 : decode cX0_read 1 = .ok (.iload_n 1, 1) := by decide +kernel
theorem dX0_read_2 : decode cX0_read 2 = .ok (.iload_n 2, 1) := by decide +kernel
theorem dX0_read_3 : decode cX0_read 3 = .ok (.invokevirtual 45, 3) := by decide +kernel
theorem dX0_read_6 : decode cX0_read 6 = .ok (.istore_n 3, 1) := by decide +kernel
theorem dX0_read_7 : decode cX0_read 7 = .ok (.iload_n 3, 1) := by decide +kernel
theorem dX0_read_8 : decode cX0_read 8 = .ok (.ifCond .eq 5, 3) := by decide +kernel
theorem dX0_read_11 : decode cX0_read 11 = .ok (.iload_n 3, 1) := by decide +kernel
theorem dX0_read_12 : decode cX0_read 12 = .ok (.ireturn, 1) := by decide +kernel
theorem dX0_read_13 : decode cX0_read 13 = .ok (.aload_n 0, 1) := by decide +kernel
theorem dX0_read_14 : decode cX0_read 14 = .ok (.iconst 2, 1) := by decide +kernel
theorem dX0_read_15 : decode cX0_read 15 = .ok (.iload_n 1, 1) := by decide +kernel
theorem dX0_read_16 : decode cX0_read 16 = .ok (.imul, 1) := by decide +kernel
theorem dX0_read_17 : decode cX0_read 17 = .ok (.iload_n 2, 1) := by decide +kernel
theorem dX0_read_18 : decode cX0_read 18 = .ok (.iconst 3, 1) := by decide +kernel
theorem dX0_read_19 : decode cX0_read 19 = .ok (.ishr, 1) := by decide +kernel
theorem dX0_read_20 : decode cX0_read 20 = .ok (.iadd, 1) := by decide +kernel
theorem dX0_read_21 : decode cX0_read 21 = .ok (.iload_n 2, 1) := by decide +kernel
theorem dX0_read_22 : decode cX0_read 22 = .ok (.bipush 7, 2) := by decide +kernel
theorem dX0_read_24 : decode cX0_read 24 = .ok (.iand, 1) := by decide +kernel
theorem dX0_read_25 : decode cX0_read 25 = .ok (.invokevirtual 49, 3) := by decide +kernel
theorem dX0_read_28 : decode cX0_read 28 = .ok (.ireturn, 1) := by decide +kernel
abbrev cX0_begin : ByteArray := prog_1_method_5_code
def yX0_begin : MethodName := ⟨RX0, "begin", "()I"⟩
theorem dX0_begin_0 : decode cX0_begin 0 = .ok (.aload_n 0, 1) := by decide +kernel
theorem dX0_begin_1 : decode cX0_begin 1 = .ok (.getfield 34, 3) := by decide +kernel
theorem dX0_begin_4 : decode cX0_begin 4 = .ok (.ifCond .eq 6, 3) := by decide +kernel
theorem dX0_begin_7 : decode cX0_begin 7 = .ok (.bipush (-2), 2) := by decide +kernel
theorem dX0_begin_9 : decode cX0_begin 9 = .ok (.ireturn, 1) := by decide +kernel
theorem dX0_begin_10 : decode cX0_begin 10 = .ok (.aload_n 0, 1) := by decide +kernel
theorem dX0_begin_11 : decode cX0_begin 11 = .ok (.iconst 1, 1) := by decide +kernel
theorem dX0_begin_12 : decode cX0_begin 12 = .ok (.putfield 34, 3) := by decide +kernel
theorem dX0_begin_15 : decode cX0_begin 15 = .ok (.iconst 0, 1) := by decide +kernel
theorem dX0_begin_16 : decode cX0_begin 16 = .ok (.ireturn, 1) := by decide +kernel
abbrev cX0_commit : ByteArray := prog_1_method_6_code
def yX0_commit : MethodName := ⟨RX0, "commit", "()I"⟩
theorem dX0_commit_0 : decode cX0_commit 0 = .ok (.aload_n 0, 1) := by decide +kernel
theorem dX0_commit_1 : decode cX0_commit 1 = .ok (.getfield 34, 3) := by decide +kernel
theorem dX0_commit_4 : decode cX0_commit 4 = .ok (.ifCond .ne 6, 3) := by decide +kernel
theorem dX0_commit_7 : decode cX0_commit 7 = .ok (.bipush (-2), 2) := by decide +kernel
theorem dX0_commit_9 : decode cX0_commit 9 = .ok (.ireturn, 1) := by decide +kernel
theorem dX0_commit_10 : decode cX0_commit 10 = .ok (.aload_n 0, 1) := by decide +kernel
theorem dX0_commit_11 : decode cX0_commit 11 = .ok (.iconst 0, 1) := by decide +kernel
theorem dX0_commit_12 : decode cX0_commit 12 = .ok (.putfield 34, 3) := by decide +kernel
theorem dX0_commit_15 : decode cX0_commit 15 = .ok (.aload_n 0, 1) := by decide +kernel
theorem dX0_commit_16 : decode cX0_commit 16 = .ok (.invokevirtual 42, 3) := by decide +kernel
theorem dX0_commit_19 : decode cX0_commit 19 = .ok (.iconst 0, 1) := by decide +kernel
theorem dX0_commit_20 : decode cX0_commit 20 = .ok (.ireturn, 1) := by decide +kernel
abbrev cX0_abort : ByteArray := prog_1_method_7_code
def yX0_abort : MethodName := ⟨RX0, "abort", "()I"⟩
theorem dX0_abort_0 : decode cX0_abort 0 = .ok (.aload_n 0, 1) := by decide +kernel
theorem dX0_abort_1 : decode cX0_abort 1 = .ok (.getfield 34, 3) := by decide +kernel
theorem dX0_abort_4 : decode cX0_abort 4 = .ok (.ifCond .ne 6, 3) := by decide +kernel
theorem dX0_abort_7 : decode cX0_abort 7 = .ok (.bipush (-2), 2) := by decide +kernel
theorem dX0_abort_9 : decode cX0_abort 9 = .ok (.ireturn, 1) := by decide +kernel
theorem dX0_abort_10 : decode cX0_abort 10 = .ok (.aload_n 0, 1) := by decide +kernel
theorem dX0_abort_11 : decode cX0_abort 11 = .ok (.iconst 0, 1) := by decide +kernel
theorem dX0_abort_12 : decode cX0_abort 12 = .ok (.putfield 34, 3) := by decide +kernel
theorem dX0_abort_15 : decode cX0_abort 15 = .ok (.aload_n 0, 1) := by decide +kernel
theorem dX0_abort_16 : decode cX0_abort 16 = .ok (.invokevirtual 52, 3) := by decide +kernel
theorem dX0_abort_19 : decode cX0_abort 19 = .ok (.iconst 0, 1) := by decide +kernel
theorem dX0_abort_20 : decode cX0_abort 20 = .ok (.ireturn, 1) := by decide +kernel
abbrev cX0_verify : ByteArray := prog_1_method_8_code
def yX0_verify : MethodName := ⟨RX0, "verify", "(I)I"⟩
theorem dX0_verify_0 : decode cX0_verify 0 = .ok (.aload_n 0, 1) := by decide +kernel
theorem dX0_verify_1 : decode cX0_verify 1 = .ok (.getfield 26, 3) := by decide +kernel
theorem dX0_verify_4 : decode cX0_verify 4 = .ok (.ifCond .ne 6, 3) := by decide +kernel
theorem dX0_verify_7 : decode cX0_verify 7 = .ok (.bipush (-4), 2) := by decide +kernel
theorem dX0_verify_9 : decode cX0_verify 9 = .ok (.ireturn, 1) := by decide +kernel
theorem dX0_verify_10 : decode cX0_verify 10 = .ok (.aload_n 0, 1) := by decide +kernel
theorem dX0_verify_11 : decode cX0_verify 11 = .ok (.dup, 1) := by decide +kernel
theorem dX0_verify_12 : decode cX0_verify 12 = .ok (.getfield 26, 3) := by decide +kernel
theorem dX0_verify_15 : decode cX0_verify 15 = .ok (.iconst 1, 1) := by decide +kernel
theorem dX0_verify_16 : decode cX0_verify 16 = .ok (.isub, 1) := by decide +kernel
theorem dX0_verify_17 : decode cX0_verify 17 = .ok (.putfield 26, 3) := by decide +kernel
theorem dX0_verify_20 : decode cX0_verify 20 = .ok (.aload_n 0, 1) := by decide +kernel
theorem dX0_verify_21 : decode cX0_verify 21 = .ok (.iconst 0, 1) := by decide +kernel
theorem dX0_verify_22 : decode cX0_verify 22 = .ok (.putfield 55, 3) := by decide +kernel
theorem dX0_verify_25 : decode cX0_verify 25 = .ok (.aload_n 0, 1) := by decide +kernel
theorem dX0_verify_26 : decode cX0_verify 26 = .ok (.bipush 13, 2) := by decide +kernel
theorem dX0_verify_28 : decode cX0_verify 28 = .ok (.iconst 0, 1) := by decide +kernel
theorem dX0_verify_29 : decode cX0_verify 29 = .ok (.invokevirtual 49, 3) := by decide +kernel
theorem dX0_verify_32 : decode cX0_verify 32 = .ok (.sipush 256, 3) := by decide +kernel
theorem dX0_verify_35 : decode cX0_verify 35 = .ok (.aload_n 0, 1) := by decide +kernel
theorem dX0_verify_36 : decode cX0_verify 36 = .ok (.bipush 13, 2) := by decide +kernel
theorem dX0_verify_38 : decode cX0_verify 38 = .ok (.iconst 1, 1) := by decide +kernel
theorem dX0_verify_39 : decode cX0_verify 39 = .ok (.invokevirtual 49, 3) := by decide +kernel
theorem dX0_verify_42 : decode cX0_verify 42 = .ok (.imul, 1) := by decide +kernel
theorem dX0_verify_43 : decode cX0_verify 43 = .ok (.iadd, 1) := by decide +kernel
theorem dX0_verify_44 : decode cX0_verify 44 = .ok (.istore_n 2, 1) := by decide +kernel
theorem dX0_verify_45 : decode cX0_verify 45 = .ok (.iload_n 2, 1) := by decide +kernel
theorem dX0_verify_46 : decode cX0_verify 46 = .ok (.iload_n 1, 1) := by decide +kernel
theorem dX0_verify_47 : decode cX0_verify 47 = .ok (.if_icmp .ne 13, 3) := by decide +kernel
theorem dX0_verify_50 : decode cX0_verify 50 = .ok (.aload_n 0, 1) := by decide +kernel
theorem dX0_verify_51 : decode cX0_verify 51 = .ok (.iconst 3, 1) := by decide +kernel
theorem dX0_verify_52 : decode cX0_verify 52 = .ok (.putfield 26, 3) := by decide +kernel
theorem dX0_verify_55 : decode cX0_verify 55 = .ok (.aload_n 0, 1) := by decide +kernel
theorem dX0_verify_56 : decode cX0_verify 56 = .ok (.iconst 1, 1) := by decide +kernel
theorem dX0_verify_57 : decode cX0_verify 57 = .ok (.putfield 55, 3) := by decide +kernel
theorem dX0_verify_60 : decode cX0_verify 60 = .ok (.aload_n 0, 1) := by decide +kernel
theorem dX0_verify_61 : decode cX0_verify 61 = .ok (.getfield 26, 3) := by decide +kernel
theorem dX0_verify_64 : decode cX0_verify 64 = .ok (.ireturn, 1) := by decide +kernel
abbrev cX0_change : ByteArray := prog_1_method_9_code
def yX0_change : MethodName := ⟨RX0, "change", "(I)I"⟩
theorem dX0_change_0 : decode cX0_change 0 = .ok (.iload_n 1, 1) := by decide +kernel
theorem dX0_change_1 : decode cX0_change 1 = .ok (.ifCond .lt 10, 3) := by decide +kernel
theorem dX0_change_4 : decode cX0_change 4 = .ok (.iload_n 1, 1) := by decide +kernel
theorem dX0_change_5 : decode cX0_change 5 = .ok (.sipush 9999, 3) := by decide +kernel
theorem dX0_change_8 : decode cX0_change 8 = .ok (.if_icmp .le 5, 3) := by decide +kernel
theorem dX0_change_11 : decode cX0_change 11 = .ok (.iconst (-1), 1) := by decide +kernel
theorem dX0_change_12 : decode cX0_change 12 = .ok (.ireturn, 1) := by decide +kernel
theorem dX0_change_13 : decode cX0_change 13 = .ok (.aload_n 0, 1) := by decide +kernel
theorem dX0_change_14 : decode cX0_change 14 = .ok (.getfield 55, 3) := by decide +kernel
theorem dX0_change_17 : decode cX0_change 17 = .ok (.ifCond .ne 6, 3) := by decide +kernel
theorem dX0_change_20 : decode cX0_change 20 = .ok (.bipush (-3), 2) := by decide +kernel
theorem dX0_change_22 : decode cX0_change 22 = .ok (.ireturn, 1) := by decide +kernel
theorem dX0_change_23 : decode cX0_change 23 = .ok (.aload_n 0, 1) := by decide +kernel
theorem dX0_change_24 : decode cX0_change 24 = .ok (.getfield 34, 3) := by decide +kernel
theorem dX0_change_27 : decode cX0_change 27 = .ok (.ifCond .eq 6, 3) := by decide +kernel
theorem dX0_change_30 : decode cX0_change 30 = .ok (.bipush (-2), 2) := by decide +kernel
theorem dX0_change_32 : decode cX0_change 32 = .ok (.ireturn, 1) := by decide +kernel
theorem dX0_change_33 : decode cX0_change 33 = .ok (.aload_n 0, 1) := by decide +kernel
theorem dX0_change_34 : decode cX0_change 34 = .ok (.bipush 13, 2) := by decide +kernel
theorem dX0_change_36 : decode cX0_change 36 = .ok (.invokevirtual 38, 3) := by decide +kernel
theorem dX0_change_39 : decode cX0_change 39 = .ok (.aload_n 0, 1) := by decide +kernel
theorem dX0_change_40 : decode cX0_change 40 = .ok (.getfield 23, 3) := by decide +kernel
theorem dX0_change_43 : decode cX0_change 43 = .ok (.bipush 104, 2) := by decide +kernel
theorem dX0_change_45 : decode cX0_change 45 = .ok (.iload_n 1, 1) := by decide +kernel
theorem dX0_change_46 : decode cX0_change 46 = .ok (.sipush 255, 3) := by decide +kernel
theorem dX0_change_49 : decode cX0_change 49 = .ok (.iand, 1) := by decide +kernel
theorem dX0_change_50 : decode cX0_change 50 = .ok (.iastore, 1) := by decide +kernel
theorem dX0_change_51 : decode cX0_change 51 = .ok (.aload_n 0, 1) := by decide +kernel
theorem dX0_change_52 : decode cX0_change 52 = .ok (.getfield 23, 3) := by decide +kernel
theorem dX0_change_55 : decode cX0_change 55 = .ok (.bipush 105, 2) := by decide +kernel
theorem dX0_change_57 : decode cX0_change 57 = .ok (.iload_n 1, 1) := by decide +kernel
theorem dX0_change_58 : decode cX0_change 58 = .ok (.bipush 8, 2) := by decide +kernel
theorem dX0_change_60 : decode cX0_change 60 = .ok (.ishr, 1) := by decide +kernel
theorem dX0_change_61 : decode cX0_change 61 = .ok (.iastore, 1) := by decide +kernel
theorem dX0_change_62 : decode cX0_change 62 = .ok (.aload_n 0, 1) := by decide +kernel
theorem dX0_change_63 : decode cX0_change 63 = .ok (.invokevirtual 42, 3) := by decide +kernel
theorem dX0_change_66 : decode cX0_change 66 = .ok (.iconst 0, 1) := by decide +kernel
theorem dX0_change_67 : decode cX0_change 67 = .ok (.ireturn, 1) := by decide +kernel
abbrev cX0_power : ByteArray := prog_1_method_10_code
def yX0_power : MethodName := ⟨RX0, "power", "()V"⟩
theorem dX0_power_0 : decode cX0_power 0 = .ok (.aload_n 0, 1) := by decide +kernel
theorem dX0_power_1 : decode cX0_power 1 = .ok (.invokevirtual 58, 3) := by decide +kernel
theorem dX0_power_4 : decode cX0_power 4 = .ok (.return_, 1) := by decide +kernel
abbrev cX0_start : ByteArray := prog_1_method_21_code
def yX0_start : MethodName := ⟨RX0, "start", "()V"⟩
theorem dX0_start_0 : decode cX0_start 0 = .ok (.aload_n 0, 1) := by decide +kernel
theorem dX0_start_1 : decode cX0_start 1 = .ok (.invokevirtual 67, 3) := by decide +kernel
theorem dX0_start_4 : decode cX0_start 4 = .ok (.aload_n 0, 1) := by decide +kernel
theorem dX0_start_5 : decode cX0_start 5 = .ok (.invokevirtual 52, 3) := by decide +kernel
theorem dX0_start_8 : decode cX0_start 8 = .ok (.aload_n 0, 1) := by decide +kernel
theorem dX0_start_9 : decode cX0_start 9 = .ok (.iconst 0, 1) := by decide +kernel
theorem dX0_start_10 : decode cX0_start 10 = .ok (.putfield 34, 3) := by decide +kernel
theorem dX0_start_13 : decode cX0_start 13 = .ok (.aload_n 0, 1) := by decide +kernel
theorem dX0_start_14 : decode cX0_start 14 = .ok (.iconst 0, 1) := by decide +kernel
theorem dX0_start_15 : decode cX0_start 15 = .ok (.putfield 55, 3) := by decide +kernel
theorem dX0_start_18 : decode cX0_start 18 = .ok (.return_, 1) := by decide +kernel
abbrev cX0_torn : ByteArray := prog_1_method_11_code
def yX0_torn : MethodName := ⟨RX0, "torn", "(ZI)V"⟩
theorem dX0_torn_0 : decode cX0_torn 0 = .ok (.iload_n 1, 1) := by decide +kernel
theorem dX0_torn_1 : decode cX0_torn 1 = .ok (.ifCond .ne 8, 3) := by decide +kernel
theorem dX0_torn_4 : decode cX0_torn 4 = .ok (.aload_n 0, 1) := by decide +kernel
theorem dX0_torn_5 : decode cX0_torn 5 = .ok (.iconst 0, 1) := by decide +kernel
theorem dX0_torn_6 : decode cX0_torn 6 = .ok (.putfield 61, 3) := by decide +kernel
theorem dX0_torn_9 : decode cX0_torn 9 = .ok (.iconst 0, 1) := by decide +kernel
theorem dX0_torn_10 : decode cX0_torn 10 = .ok (.istore_n 3, 1) := by decide +kernel
theorem dX0_torn_11 : decode cX0_torn 11 = .ok (.iload_n 3, 1) := by decide +kernel
theorem dX0_torn_12 : decode cX0_torn 12 = .ok (.aload_n 0, 1) := by decide +kernel
theorem dX0_torn_13 : decode cX0_torn 13 = .ok (.getfield 61, 3) := by decide +kernel
theorem dX0_torn_16 : decode cX0_torn 16 = .ok (.if_icmp .ge 19, 3) := by decide +kernel
theorem dX0_torn_19 : decode cX0_torn 19 = .ok (.iload_n 3, 1) := by decide +kernel
theorem dX0_torn_20 : decode cX0_torn 20 = .ok (.iload_n 2, 1) := by decide +kernel
theorem dX0_torn_21 : decode cX0_torn 21 = .ok (.if_icmp .ge 14, 3) := by decide +kernel
theorem dX0_torn_24 : decode cX0_torn 24 = .ok (.aload_n 0, 1) := by decide +kernel
theorem dX0_torn_25 : decode cX0_torn 25 = .ok (.iload_n 3, 1) := by decide +kernel
theorem dX0_torn_26 : decode cX0_torn 26 = .ok (.invokevirtual 64, 3) := by decide +kernel
theorem dX0_torn_29 : decode cX0_torn 29 = .ok (.iinc 3 1, 3) := by decide +kernel
theorem dX0_torn_32 : decode cX0_torn 32 = .ok (.goto (-21), 3) := by decide +kernel
theorem dX0_torn_35 : decode cX0_torn 35 = .ok (.aload_n 0, 1) := by decide +kernel
theorem dX0_torn_36 : decode cX0_torn 36 = .ok (.invokevirtual 58, 3) := by decide +kernel
theorem dX0_torn_39 : decode cX0_torn 39 = .ok (.return_, 1) := by decide +kernel
abbrev cX0_state : ByteArray := prog_1_method_13_code
def yX0_state : MethodName := ⟨RX0, "state", "()I"⟩
theorem dX0_state_0 : decode cX0_state 0 = .ok (.aload_n 0, 1) := by decide +kernel
theorem dX0_state_1 : decode cX0_state 1 = .ok (.getfield 26, 3) := by decide +kernel
theorem dX0_state_4 : decode cX0_state 4 = .ok (.aload_n 0, 1) := by decide +kernel
theorem dX0_state_5 : decode cX0_state 5 = .ok (.getfield 55, 3) := by decide +kernel
theorem dX0_state_8 : decode cX0_state 8 = .ok (.ifCond .eq 7, 3) := by decide +kernel
theorem dX0_state_11 : decode cX0_state 11 = .ok (.iconst 4, 1) := by decide +kernel
theorem dX0_state_12 : decode cX0_state 12 = .ok (.goto 4, 3) := by decide +kernel
theorem dX0_state_15 : decode cX0_state 15 = .ok (.iconst 0, 1) := by decide +kernel
theorem dX0_state_16 : decode cX0_state 16 = .ok (.iadd, 1) := by decide +kernel
theorem dX0_state_17 : decode cX0_state 17 = .ok (.ireturn, 1) := by decide +kernel
theorem q11 : (Jvm.Cond.initialized "CardFiles") ∈ lw_all := lw_g (lw_at lw_m0 1 rfl) rfl
theorem q14 : (Jvm.Cond.instantiable "CardFiles" (9 : Nat)) ∈ lw_all := lw_g (lw_at lw_m0 4 rfl) rfl
theorem q16 : (Jvm.Cond.instanceMethod ({ cls := "CardFiles", name := "<init>", desc := "()V" } : Jvm.MethodName)) ∈ lw_all := lw_g (lw_at lw_m0 6 rfl) rfl
theorem q17 : (Jvm.Cond.code ({ cls := "CardFiles", name := "<init>", desc := "()V" } : Jvm.MethodName) prog_1_method_1_code (1 : Nat) (Option.none : Option Jvm.ClassFile.FieldType)) ∈ lw_all := lw_g (lw_at lw_m0 7 rfl) rfl
theorem q18 : (Jvm.Cond.methodLink "CardFiles" (1 : Nat) ({ cls := "java/lang/Object", name := "<init>", desc := "()V" } : Jvm.MethodName)) ∈ lw_all := lw_g (lw_at lw_m0 8 rfl) rfl
theorem q21 : (Jvm.Cond.fieldLink "CardFiles" (7 : Nat) "CardFiles" "home" "[I") ∈ lw_all := lw_g (lw_at lw_m0 11 rfl) rfl
theorem q22 : (Jvm.Cond.fieldLink "CardFiles" (61 : Nat) "CardFiles" "mark" "I") ∈ lw_all := lw_g (lw_at lw_m0 12 rfl) rfl
theorem q23 : (Jvm.Cond.fieldLink "CardFiles" (13 : Nat) "CardFiles" "logPage" "[I") ∈ lw_all := lw_g (lw_at lw_m0 13 rfl) rfl
theorem q24 : (Jvm.Cond.fieldLink "CardFiles" (16 : Nat) "CardFiles" "logByte" "[I") ∈ lw_all := lw_g (lw_at lw_m0 14 rfl) rfl
theorem q25 : (Jvm.Cond.fieldLink "CardFiles" (26 : Nat) "CardFiles" "tries" "I") ∈ lw_all := lw_g (lw_at lw_m0 15 rfl) rfl
theorem q26 : (Jvm.Cond.fieldLink "CardFiles" (55 : Nat) "CardFiles" "verified" "Z") ∈ lw_all := lw_g (lw_at lw_m0 16 rfl) rfl
theorem q27 : (Jvm.Cond.fieldLink "CardFiles" (34 : Nat) "CardFiles" "inTransaction" "Z") ∈ lw_all := lw_g (lw_at lw_m0 17 rfl) rfl
theorem q28 : (Jvm.Cond.fieldLink "CardFiles" (19 : Nat) "CardFiles" "staged" "[Z") ∈ lw_all := lw_g (lw_at lw_m0 18 rfl) rfl
theorem q29 : (Jvm.Cond.fieldLink "CardFiles" (23 : Nat) "CardFiles" "stagedByte" "[I") ∈ lw_all := lw_g (lw_at lw_m0 19 rfl) rfl
theorem q30 : (Jvm.Cond.laysFinal "CardFiles" "CardFiles" "home" "[I") ∈ lw_all := lw_g (lw_at lw_m0 20 rfl) rfl
theorem q31 : (Jvm.Cond.soleField "CardFiles" "home") ∈ lw_all := lw_g (lw_at lw_m0 21 rfl) rfl
theorem q32 : (Jvm.Cond.lays "CardFiles" "CardFiles" "mark" "I") ∈ lw_all := lw_g (lw_at lw_m0 22 rfl) rfl
theorem q33 : (Jvm.Cond.soleField "CardFiles" "mark") ∈ lw_all := lw_g (lw_at lw_m0 23 rfl) rfl
theorem q34 : (Jvm.Cond.laysFinal "CardFiles" "CardFiles" "logPage" "[I") ∈ lw_all := lw_g (lw_at lw_m0 24 rfl) rfl
theorem q35 : (Jvm.Cond.soleField "CardFiles" "logPage") ∈ lw_all := lw_g (lw_at lw_m0 25 rfl) rfl
theorem q36 : (Jvm.Cond.laysFinal "CardFiles" "CardFiles" "logByte" "[I") ∈ lw_all := lw_g (lw_at lw_m0 26 rfl) rfl
theorem q37 : (Jvm.Cond.soleField "CardFiles" "logByte") ∈ lw_all := lw_g (lw_at lw_m0 27 rfl) rfl
theorem q38 : (Jvm.Cond.lays "CardFiles" "CardFiles" "tries" "I") ∈ lw_all := lw_g (lw_at lw_m0 28 rfl) rfl
theorem q39 : (Jvm.Cond.soleField "CardFiles" "tries") ∈ lw_all := lw_g (lw_at lw_m0 29 rfl) rfl
theorem q40 : (Jvm.Cond.lays "CardFiles" "CardFiles" "verified" "Z") ∈ lw_all := lw_g (lw_at lw_m0 30 rfl) rfl
theorem q41 : (Jvm.Cond.soleField "CardFiles" "verified") ∈ lw_all := lw_g (lw_at lw_m0 31 rfl) rfl
theorem q42 : (Jvm.Cond.lays "CardFiles" "CardFiles" "inTransaction" "Z") ∈ lw_all := lw_g (lw_at lw_m0 32 rfl) rfl
theorem q43 : (Jvm.Cond.soleField "CardFiles" "inTransaction") ∈ lw_all := lw_g (lw_at lw_m0 33 rfl) rfl
theorem q44 : (Jvm.Cond.laysFinal "CardFiles" "CardFiles" "staged" "[Z") ∈ lw_all := lw_g (lw_at lw_m0 34 rfl) rfl
theorem q45 : (Jvm.Cond.soleField "CardFiles" "staged") ∈ lw_all := lw_g (lw_at lw_m0 35 rfl) rfl
theorem q46 : (Jvm.Cond.laysFinal "CardFiles" "CardFiles" "stagedByte" "[I") ∈ lw_all := lw_g (lw_at lw_m0 36 rfl) rfl
theorem q47 : (Jvm.Cond.soleField "CardFiles" "stagedByte") ∈ lw_all := lw_g (lw_at lw_m0 37 rfl) rfl
theorem q48 : (Jvm.Cond.superclass "CardFiles" "java/lang/Object") ∈ lw_all := lw_g (lw_at lw_m0 38 rfl) rfl
theorem q52 : (Jvm.Cond.instanceMethod ({ cls := "CardFiles", name := "create", desc := "(IIZ)I" } : Jvm.MethodName)) ∈ lw_all := lw_g (lw_at lw_m0 42 rfl) rfl
theorem q53 : (Jvm.Cond.selects "CardFiles" ({ cls := "CardFiles", name := "create", desc := "(IIZ)I" } : Jvm.MethodName) ({ cls := "CardFiles", name := "create", desc := "(IIZ)I" } : Jvm.MethodName)) ∈ lw_all := lw_g (lw_at lw_m0 43 rfl) rfl
theorem q54 : (Jvm.Cond.code ({ cls := "CardFiles", name := "create", desc := "(IIZ)I" } : Jvm.MethodName) prog_1_method_2_code (4 : Nat) (Option.some Jvm.ClassFile.FieldType.int)) ∈ lw_all := lw_g (lw_at lw_m0 44 rfl) rfl
theorem q55 : (Jvm.Cond.methodLink "CardFiles" (30 : Nat) ({ cls := "CardFiles", name := "size", desc := "(I)I" } : Jvm.MethodName)) ∈ lw_all := lw_g (lw_at lw_m0 45 rfl) rfl
theorem q56 : (Jvm.Cond.instanceMethod ({ cls := "CardFiles", name := "size", desc := "(I)I" } : Jvm.MethodName)) ∈ lw_all := lw_g (lw_at lw_m0 46 rfl) rfl
theorem q57 : (Jvm.Cond.selects "CardFiles" ({ cls := "CardFiles", name := "size", desc := "(I)I" } : Jvm.MethodName) ({ cls := "CardFiles", name := "size", desc := "(I)I" } : Jvm.MethodName)) ∈ lw_all := lw_g (lw_at lw_m0 47 rfl) rfl
theorem q58 : (Jvm.Cond.code ({ cls := "CardFiles", name := "size", desc := "(I)I" } : Jvm.MethodName) prog_1_method_12_code (2 : Nat) (Option.some Jvm.ClassFile.FieldType.int)) ∈ lw_all := lw_g (lw_at lw_m0 48 rfl) rfl
theorem q59 : (Jvm.Cond.methodLink "CardFiles" (49 : Nat) ({ cls := "CardFiles", name := "byteAt", desc := "(II)I" } : Jvm.MethodName)) ∈ lw_all := lw_g (lw_at lw_m0 49 rfl) rfl
theorem q60 : (Jvm.Cond.privateMethod ({ cls := "CardFiles", name := "byteAt", desc := "(II)I" } : Jvm.MethodName)) ∈ lw_tbl := lw_at lw_m0 50 rfl
theorem q61 : (Jvm.Cond.instanceMethod ({ cls := "CardFiles", name := "byteAt", desc := "(II)I" } : Jvm.MethodName)) ∈ lw_all := lw_g (lw_at lw_m0 51 rfl) rfl
theorem q62 : (Jvm.Cond.code ({ cls := "CardFiles", name := "byteAt", desc := "(II)I" } : Jvm.MethodName) prog_1_method_15_code (4 : Nat) (Option.some Jvm.ClassFile.FieldType.int)) ∈ lw_all := lw_g (lw_at lw_m0 52 rfl) rfl
theorem q63 : (Jvm.Cond.methodLink "CardFiles" (38 : Nat) ({ cls := "CardFiles", name := "stage", desc := "(I)V" } : Jvm.MethodName)) ∈ lw_all := lw_g (lw_at lw_m0 53 rfl) rfl
theorem q64 : (Jvm.Cond.privateMethod ({ cls := "CardFiles", name := "stage", desc := "(I)V" } : Jvm.MethodName)) ∈ lw_tbl := lw_at lw_m0 54 rfl
theorem q65 : (Jvm.Cond.instanceMethod ({ cls := "CardFiles", name := "stage", desc := "(I)V" } : Jvm.MethodName)) ∈ lw_all := lw_g (lw_at lw_m0 55 rfl) rfl
theorem q66 : (Jvm.Cond.code ({ cls := "CardFiles", name := "stage", desc := "(I)V" } : Jvm.MethodName) prog_1_method_16_code (3 : Nat) (Option.none : Option Jvm.ClassFile.FieldType)) ∈ lw_all := lw_g (lw_at lw_m0 56 rfl) rfl
theorem q67 : (Jvm.Cond.methodLink "CardFiles" (42 : Nat) ({ cls := "CardFiles", name := "writeLog", desc := "()V" } : Jvm.MethodName)) ∈ lw_all := lw_g (lw_at lw_m0 57 rfl) rfl
theorem q68 : (Jvm.Cond.privateMethod ({ cls := "CardFiles", name := "writeLog", desc := "()V" } : Jvm.MethodName)) ∈ lw_tbl := lw_at lw_m0 58 rfl
theorem q69 : (Jvm.Cond.instanceMethod ({ cls := "CardFiles", name := "writeLog", desc := "()V" } : Jvm.MethodName)) ∈ lw_all := lw_g (lw_at lw_m0 59 rfl) rfl
theorem q70 : (Jvm.Cond.code ({ cls := "CardFiles", name := "writeLog", desc := "()V" } : Jvm.MethodName) prog_1_method_18_code (4 : Nat) (Option.none : Option Jvm.ClassFile.FieldType)) ∈ lw_all := lw_g (lw_at lw_m0 60 rfl) rfl
theorem q71 : (Jvm.Cond.methodLink "CardFiles" (67 : Nat) ({ cls := "CardFiles", name := "bringAllHome", desc := "()V" } : Jvm.MethodName)) ∈ lw_all := lw_g (lw_at lw_m0 61 rfl) rfl
theorem q72 : (Jvm.Cond.privateMethod ({ cls := "CardFiles", name := "bringAllHome", desc := "()V" } : Jvm.MethodName)) ∈ lw_tbl := lw_at lw_m0 62 rfl
theorem q73 : (Jvm.Cond.instanceMethod ({ cls := "CardFiles", name := "bringAllHome", desc := "()V" } : Jvm.MethodName)) ∈ lw_all := lw_g (lw_at lw_m0 63 rfl) rfl
theorem q74 : (Jvm.Cond.code ({ cls := "CardFiles", name := "bringAllHome", desc := "()V" } : Jvm.MethodName) prog_1_method_20_code (2 : Nat) (Option.none : Option Jvm.ClassFile.FieldType)) ∈ lw_all := lw_g (lw_at lw_m0 64 rfl) rfl
theorem q75 : (Jvm.Cond.methodLink "CardFiles" (64 : Nat) ({ cls := "CardFiles", name := "bringHome", desc := "(I)V" } : Jvm.MethodName)) ∈ lw_all := lw_g (lw_at lw_m0 65 rfl) rfl
theorem q76 : (Jvm.Cond.privateMethod ({ cls := "CardFiles", name := "bringHome", desc := "(I)V" } : Jvm.MethodName)) ∈ lw_tbl := lw_at lw_m0 66 rfl
theorem q77 : (Jvm.Cond.instanceMethod ({ cls := "CardFiles", name := "bringHome", desc := "(I)V" } : Jvm.MethodName)) ∈ lw_all := lw_g (lw_at lw_m0 67 rfl) rfl
theorem q78 : (Jvm.Cond.code ({ cls := "CardFiles", name := "bringHome", desc := "(I)V" } : Jvm.MethodName) prog_1_method_19_code (3 : Nat) (Option.none : Option Jvm.ClassFile.FieldType)) ∈ lw_all := lw_g (lw_at lw_m0 68 rfl) rfl
theorem q79 : (Jvm.Cond.methodLink "CardFiles" (52 : Nat) ({ cls := "CardFiles", name := "unstage", desc := "()V" } : Jvm.MethodName)) ∈ lw_all := lw_g (lw_at lw_m0 69 rfl) rfl
theorem q80 : (Jvm.Cond.privateMethod ({ cls := "CardFiles", name := "unstage", desc := "()V" } : Jvm.MethodName)) ∈ lw_tbl := lw_at lw_m0 70 rfl
theorem q81 : (Jvm.Cond.instanceMethod ({ cls := "CardFiles", name := "unstage", desc := "()V" } : Jvm.MethodName)) ∈ lw_all := lw_g (lw_at lw_m0 71 rfl) rfl
theorem q82 : (Jvm.Cond.code ({ cls := "CardFiles", name := "unstage", desc := "()V" } : Jvm.MethodName) prog_1_method_17_code (2 : Nat) (Option.none : Option Jvm.ClassFile.FieldType)) ∈ lw_all := lw_g (lw_at lw_m0 72 rfl) rfl
theorem q84 : (Jvm.Cond.instanceMethod ({ cls := "CardFiles", name := "update", desc := "(III)I" } : Jvm.MethodName)) ∈ lw_all := lw_g (lw_at lw_m0 74 rfl) rfl
theorem q85 : (Jvm.Cond.selects "CardFiles" ({ cls := "CardFiles", name := "update", desc := "(III)I" } : Jvm.MethodName) ({ cls := "CardFiles", name := "update", desc := "(III)I" } : Jvm.MethodName)) ∈ lw_all := lw_g (lw_at lw_m0 75 rfl) rfl
theorem q86 : (Jvm.Cond.code ({ cls := "CardFiles", name := "update", desc := "(III)I" } : Jvm.MethodName) prog_1_method_3_code (6 : Nat) (Option.some Jvm.ClassFile.FieldType.int)) ∈ lw_all := lw_g (lw_at lw_m0 76 rfl) rfl
theorem q87 : (Jvm.Cond.methodLink "CardFiles" (45 : Nat) ({ cls := "CardFiles", name := "refuse", desc := "(II)I" } : Jvm.MethodName)) ∈ lw_all := lw_g (lw_at lw_m0 77 rfl) rfl
theorem q88 : (Jvm.Cond.privateMethod ({ cls := "CardFiles", name := "refuse", desc := "(II)I" } : Jvm.MethodName)) ∈ lw_tbl := lw_at lw_m0 78 rfl
theorem q89 : (Jvm.Cond.instanceMethod ({ cls := "CardFiles", name := "refuse", desc := "(II)I" } : Jvm.MethodName)) ∈ lw_all := lw_g (lw_at lw_m0 79 rfl) rfl
theorem q90 : (Jvm.Cond.code ({ cls := "CardFiles", name := "refuse", desc := "(II)I" } : Jvm.MethodName) prog_1_method_14_code (4 : Nat) (Option.some Jvm.ClassFile.FieldType.int)) ∈ lw_all := lw_g (lw_at lw_m0 80 rfl) rfl
theorem q92 : (Jvm.Cond.instanceMethod ({ cls := "CardFiles", name := "read", desc := "(II)I" } : Jvm.MethodName)) ∈ lw_all := lw_g (lw_at lw_m0 82 rfl) rfl
theorem q93 : (Jvm.Cond.selects "CardFiles" ({ cls := "CardFiles", name := "read", desc := "(II)I" } : Jvm.MethodName) ({ cls := "CardFiles", name := "read", desc := "(II)I" } : Jvm.MethodName)) ∈ lw_all := lw_g (lw_at lw_m0 83 rfl) rfl
theorem q94 : (Jvm.Cond.code ({ cls := "CardFiles", name := "read", desc := "(II)I" } : Jvm.MethodName) prog_1_method_4_code (4 : Nat) (Option.some Jvm.ClassFile.FieldType.int)) ∈ lw_all := lw_g (lw_at lw_m0 84 rfl) rfl
theorem q96 : (Jvm.Cond.instanceMethod ({ cls := "CardFiles", name := "begin", desc := "()I" } : Jvm.MethodName)) ∈ lw_all := lw_g (lw_at lw_m0 86 rfl) rfl
theorem q97 : (Jvm.Cond.selects "CardFiles" ({ cls := "CardFiles", name := "begin", desc := "()I" } : Jvm.MethodName) ({ cls := "CardFiles", name := "begin", desc := "()I" } : Jvm.MethodName)) ∈ lw_all := lw_g (lw_at lw_m0 87 rfl) rfl
theorem q98 : (Jvm.Cond.code ({ cls := "CardFiles", name := "begin", desc := "()I" } : Jvm.MethodName) prog_1_method_5_code (1 : Nat) (Option.some Jvm.ClassFile.FieldType.int)) ∈ lw_all := lw_g (lw_at lw_m0 88 rfl) rfl
theorem q100 : (Jvm.Cond.instanceMethod ({ cls := "CardFiles", name := "commit", desc := "()I" } : Jvm.MethodName)) ∈ lw_all := lw_g (lw_at lw_m0 90 rfl) rfl
theorem q101 : (Jvm.Cond.selects "CardFiles" ({ cls := "CardFiles", name := "commit", desc := "()I" } : Jvm.MethodName) ({ cls := "CardFiles", name := "commit", desc := "()I" } : Jvm.MethodName)) ∈ lw_all := lw_g (lw_at lw_m0 91 rfl) rfl
theorem q102 : (Jvm.Cond.code ({ cls := "CardFiles", name := "commit", desc := "()I" } : Jvm.MethodName) prog_1_method_6_code (1 : Nat) (Option.some Jvm.ClassFile.FieldType.int)) ∈ lw_all := lw_g (lw_at lw_m0 92 rfl) rfl
theorem q104 : (Jvm.Cond.instanceMethod ({ cls := "CardFiles", name := "abort", desc := "()I" } : Jvm.MethodName)) ∈ lw_all := lw_g (lw_at lw_m0 94 rfl) rfl
theorem q105 : (Jvm.Cond.selects "CardFiles" ({ cls := "CardFiles", name := "abort", desc := "()I" } : Jvm.MethodName) ({ cls := "CardFiles", name := "abort", desc := "()I" } : Jvm.MethodName)) ∈ lw_all := lw_g (lw_at lw_m0 95 rfl) rfl
theorem q106 : (Jvm.Cond.code ({ cls := "CardFiles", name := "abort", desc := "()I" } : Jvm.MethodName) prog_1_method_7_code (1 : Nat) (Option.some Jvm.ClassFile.FieldType.int)) ∈ lw_all := lw_g (lw_at lw_m0 96 rfl) rfl
theorem q108 : (Jvm.Cond.instanceMethod ({ cls := "CardFiles", name := "verify", desc := "(I)I" } : Jvm.MethodName)) ∈ lw_all := lw_g (lw_at lw_m0 98 rfl) rfl
theorem q109 : (Jvm.Cond.selects "CardFiles" ({ cls := "CardFiles", name := "verify", desc := "(I)I" } : Jvm.MethodName) ({ cls := "CardFiles", name := "verify", desc := "(I)I" } : Jvm.MethodName)) ∈ lw_all := lw_g (lw_at lw_m0 99 rfl) rfl
theorem q110 : (Jvm.Cond.code ({ cls := "CardFiles", name := "verify", desc := "(I)I" } : Jvm.MethodName) prog_1_method_8_code (3 : Nat) (Option.some Jvm.ClassFile.FieldType.int)) ∈ lw_all := lw_g (lw_at lw_m0 100 rfl) rfl
theorem q112 : (Jvm.Cond.instanceMethod ({ cls := "CardFiles", name := "change", desc := "(I)I" } : Jvm.MethodName)) ∈ lw_all := lw_g (lw_at lw_m0 102 rfl) rfl
theorem q113 : (Jvm.Cond.selects "CardFiles" ({ cls := "CardFiles", name := "change", desc := "(I)I" } : Jvm.MethodName) ({ cls := "CardFiles", name := "change", desc := "(I)I" } : Jvm.MethodName)) ∈ lw_all := lw_g (lw_at lw_m0 103 rfl) rfl
theorem q114 : (Jvm.Cond.code ({ cls := "CardFiles", name := "change", desc := "(I)I" } : Jvm.MethodName) prog_1_method_9_code (2 : Nat) (Option.some Jvm.ClassFile.FieldType.int)) ∈ lw_all := lw_g (lw_at lw_m0 104 rfl) rfl
theorem q116 : (Jvm.Cond.instanceMethod ({ cls := "CardFiles", name := "power", desc := "()V" } : Jvm.MethodName)) ∈ lw_all := lw_g (lw_at lw_m0 106 rfl) rfl
theorem q117 : (Jvm.Cond.selects "CardFiles" ({ cls := "CardFiles", name := "power", desc := "()V" } : Jvm.MethodName) ({ cls := "CardFiles", name := "power", desc := "()V" } : Jvm.MethodName)) ∈ lw_all := lw_g (lw_at lw_m0 107 rfl) rfl
theorem q118 : (Jvm.Cond.code ({ cls := "CardFiles", name := "power", desc := "()V" } : Jvm.MethodName) prog_1_method_10_code (1 : Nat) (Option.none : Option Jvm.ClassFile.FieldType)) ∈ lw_all := lw_g (lw_at lw_m0 108 rfl) rfl
theorem q119 : (Jvm.Cond.methodLink "CardFiles" (58 : Nat) ({ cls := "CardFiles", name := "start", desc := "()V" } : Jvm.MethodName)) ∈ lw_all := lw_g (lw_at lw_m0 109 rfl) rfl
theorem q120 : (Jvm.Cond.privateMethod ({ cls := "CardFiles", name := "start", desc := "()V" } : Jvm.MethodName)) ∈ lw_tbl := lw_at lw_m0 110 rfl
theorem q121 : (Jvm.Cond.instanceMethod ({ cls := "CardFiles", name := "start", desc := "()V" } : Jvm.MethodName)) ∈ lw_all := lw_g (lw_at lw_m0 111 rfl) rfl
theorem q122 : (Jvm.Cond.code ({ cls := "CardFiles", name := "start", desc := "()V" } : Jvm.MethodName) prog_1_method_21_code (1 : Nat) (Option.none : Option Jvm.ClassFile.FieldType)) ∈ lw_all := lw_g (lw_at lw_m0 112 rfl) rfl
theorem q124 : (Jvm.Cond.instanceMethod ({ cls := "CardFiles", name := "torn", desc := "(ZI)V" } : Jvm.MethodName)) ∈ lw_all := lw_g (lw_at lw_m0 114 rfl) rfl
theorem q125 : (Jvm.Cond.selects "CardFiles" ({ cls := "CardFiles", name := "torn", desc := "(ZI)V" } : Jvm.MethodName) ({ cls := "CardFiles", name := "torn", desc := "(ZI)V" } : Jvm.MethodName)) ∈ lw_all := lw_g (lw_at lw_m0 115 rfl) rfl
theorem q126 : (Jvm.Cond.code ({ cls := "CardFiles", name := "torn", desc := "(ZI)V" } : Jvm.MethodName) prog_1_method_11_code (4 : Nat) (Option.none : Option Jvm.ClassFile.FieldType)) ∈ lw_all := lw_g (lw_at lw_m0 116 rfl) rfl
theorem q129 : (Jvm.Cond.instanceMethod ({ cls := "CardFiles", name := "state", desc := "()I" } : Jvm.MethodName)) ∈ lw_all := lw_g (lw_at lw_m0 119 rfl) rfl
theorem q130 : (Jvm.Cond.selects "CardFiles" ({ cls := "CardFiles", name := "state", desc := "()I" } : Jvm.MethodName) ({ cls := "CardFiles", name := "state", desc := "()I" } : Jvm.MethodName)) ∈ lw_all := lw_g (lw_at lw_m0 120 rfl) rfl
theorem q131 : (Jvm.Cond.code ({ cls := "CardFiles", name := "state", desc := "()I" } : Jvm.MethodName) prog_1_method_13_code (1 : Nat) (Option.some Jvm.ClassFile.FieldType.int)) ∈ lw_all := lw_g (lw_at lw_m0 121 rfl) rfl
theorem in_X0 : ∀ w ∈ wsX00, w ∈ lw_all := lw_in wsX00 [30, 32, 34, 36, 38, 40, 42, 44, 46] (by decide +kernel) (by decide +kernel)
end
section
/-! CardFilesModel -/
set_option maxRecDepth 100000
def RX1 : String := "CardFilesModel"
def TX1 : u_T := fun k => match k with
  | 0 => ("CardFilesModel", "sizes", "[I", true)
  | 1 => ("CardFilesModel", "guards", "[Z", true)
  | 2 => ("CardFilesModel", "bytes", "[I", true)
  | 3 => ("CardFilesModel", "code", "I", false)
  | 4 => ("CardFilesModel", "tries", "I", false)
  | 5 => ("CardFilesModel", "verified", "Z", false)
  | 6 => ("CardFilesModel", "open", "Z", false)
  | 7 => ("CardFilesModel", "seen", "[I", true)
  | 8 => ("CardFilesModel", "changed", "Z", false)
  | 9 => ("CardFilesModel", "oldSizes", "[I", true)
  | 10 => ("CardFilesModel", "oldGuards", "[Z", true)
  | 11 => ("CardFilesModel", "oldBytes", "[I", true)
  | _ => ("CardFilesModel", "oldCode", "I", false)
def tyX1 : Nat → FieldType := fun k => match k with
  | 0 => .array .int
  | 1 => .array .boolean
  | 2 => .array .int
  | 3 => .int
  | 4 => .int
  | 5 => .boolean
  | 6 => .boolean
  | 7 => .array .int
  | 8 => .boolean
  | 9 => .array .int
  | 10 => .array .boolean
  | 11 => .array .int
  | _ => .int
abbrev wsX10 : List Cond := u_ws RX1 TX1 13
set_option maxRecDepth 100000 in
theorem nmX1 : ∀ a, a < 13 → ∀ b, b < 13 → a ≠ b → (TX1 a).2.1 ≠ (TX1 b).2.1 := by decide +kernel
set_option maxRecDepth 100000 in
theorem tyX1_ok : ∀ k, k < 13 → parseFieldDescriptor (TX1 k).2.2.1 = some (tyX1 k) := by decide +kernel
abbrev cX1_init : ByteArray := prog_3_method_1_code
def yX1_init : MethodName := ⟨RX1, "<init>", "()V"⟩
theorem dX1_init_0 : decode cX1_init 0 = .ok (.aload_n 0, 1) := by decide +kernel
theorem dX1_init_1 : decode cX1_init 1 = .ok (.invokespecial 1, 3) := by decide +kernel
theorem dX1_init_4 : decode cX1_init 4 = .ok (.aload_n 0, 1) := by decide +kernel
theorem dX1_init_5 : decode cX1_init 5 = .ok (.bipush 6, 2) := by decide +kernel
theorem dX1_init_7 : decode cX1_init 7 = .ok (.newarray .int, 2) := by decide +kernel
theorem dX1_init_9 : decode cX1_init 9 = .ok (.putfield 7, 3) := by decide +kernel
theorem dX1_init_12 : decode cX1_init 12 = .ok (.aload_n 0, 1) := by decide +kernel
theorem dX1_init_13 : decode cX1_init 13 = .ok (.bipush 6, 2) := by decide +kernel
theorem dX1_init_15 : decode cX1_init 15 = .ok (.newarray .boolean, 2) := by decide +kernel
theorem dX1_init_17 : decode cX1_init 17 = .ok (.putfield 13, 3) := by decide +kernel
theorem dX1_init_20 : decode cX1_init 20 = .ok (.aload_n 0, 1) := by decide +kernel
theorem dX1_init_21 : decode cX1_init 21 = .ok (.bipush 96, 2) := by decide +kernel
theorem dX1_init_23 : decode cX1_init 23 = .ok (.newarray .int, 2) := by decide +kernel
theorem dX1_init_25 : decode cX1_init 25 = .ok (.putfield 17, 3) := by decide +kernel
theorem dX1_init_28 : decode cX1_init 28 = .ok (.aload_n 0, 1) := by decide +kernel
theorem dX1_init_29 : decode cX1_init 29 = .ok (.sipush 1234, 3) := by decide +kernel
theorem dX1_init_32 : decode cX1_init 32 = .ok (.putfield 20, 3) := by decide +kernel
theorem dX1_init_35 : decode cX1_init 35 = .ok (.aload_n 0, 1) := by decide +kernel
theorem dX1_init_36 : decode cX1_init 36 = .ok (.iconst 3, 1) := by decide +kernel
theorem dX1_init_37 : decode cX1_init 37 = .ok (.putfield 24, 3) := by decide +kernel
theorem dX1_init_40 : decode cX1_init 40 = .ok (.aload_n 0, 1) := by decide +kernel
theorem dX1_init_41 : decode cX1_init 41 = .ok (.bipush 96, 2) := by decide +kernel
theorem dX1_init_43 : decode cX1_init 43 = .ok (.newarray .int, 2) := by decide +kernel
theorem dX1_init_45 : decode cX1_init 45 = .ok (.putfield 27, 3) := by decide +kernel
theorem dX1_init_48 : decode cX1_init 48 = .ok (.aload_n 0, 1) := by decide +kernel
theorem dX1_init_49 : decode cX1_init 49 = .ok (.bipush 6, 2) := by decide +kernel
theorem dX1_init_51 : decode cX1_init 51 = .ok (.newarray .int, 2) := by decide +kernel
theorem dX1_init_53 : decode cX1_init 53 = .ok (.putfield 30, 3) := by decide +kernel
theorem dX1_init_56 : decode cX1_init 56 = .ok (.aload_n 0, 1) := by decide +kernel
theorem dX1_init_57 : decode cX1_init 57 = .ok (.bipush 6, 2) := by decide +kernel
theorem dX1_init_59 : decode cX1_init 59 = .ok (.newarray .boolean, 2) := by decide +kernel
theorem dX1_init_61 : decode cX1_init 61 = .ok (.putfield 33, 3) := by decide +kernel
theorem dX1_init_64 : decode cX1_init 64 = .ok (.aload_n 0, 1) := by decide +kernel
theorem dX1_init_65 : decode cX1_init 65 = .ok (.bipush 96, 2) := by decide +kernel
theorem dX1_init_67 : decode cX1_init 67 = .ok (.newarray .int, 2) := by decide +kernel
theorem dX1_init_69 : decode cX1_init 69 = .ok (.putfield 36, 3) := by decide +kernel
theorem dX1_init_72 : decode cX1_init 72 = .ok (.return_, 1) := by decide +kernel
abbrev cX1_create : ByteArray := prog_3_method_3_code
def yX1_create : MethodName := ⟨RX1, "create", "(IIZ)I"⟩
theorem dX1_create_0 : decode cX1_create 0 = .ok (.iload_n 1, 1) := by decide +kernel
theorem dX1_create_1 : decode cX1_create 1 = .ok (.ifCond .lt 28, 3) := by decide +kernel
theorem dX1_create_4 : decode cX1_create 4 = .ok (.iload_n 1, 1) := by decide +kernel
theorem dX1_create_5 : decode cX1_create 5 = .ok (.iconst 5, 1) := by decide +kernel
theorem dX1_create_6 : decode cX1_create 6 = .ok (.if_icmp .gt 23, 3) := by decide +kernel
theorem dX1_create_9 : decode cX1_create 9 = .ok (.aload_n 0, 1) := by decide +kernel
theorem dX1_create_10 : decode cX1_create 10 = .ok (.getfield 7, 3) := by decide +kernel
theorem dX1_create_13 : decode cX1_create 13 = .ok (.iload_n 1, 1) := by decide +kernel
theorem dX1_create_14 : decode cX1_create 14 = .ok (.iaload, 1) := by decide +kernel
theorem dX1_create_15 : decode cX1_create 15 = .ok (.ifCond .gt 14, 3) := by decide +kernel
theorem dX1_create_18 : decode cX1_create 18 = .ok (.iload_n 2, 1) := by decide +kernel
theorem dX1_create_19 : decode cX1_create 19 = .ok (.iconst 1, 1) := by decide +kernel
theorem dX1_create_20 : decode cX1_create 20 = .ok (.if_icmp .lt 9, 3) := by decide +kernel
theorem dX1_create_23 : decode cX1_create 23 = .ok (.iload_n 2, 1) := by decide +kernel
theorem dX1_create_24 : decode cX1_create 24 = .ok (.bipush 16, 2) := by decide +kernel
theorem dX1_create_26 : decode cX1_create 26 = .ok (.if_icmp .le 5, 3) := by decide +kernel
theorem dX1_create_29 : decode cX1_create 29 = .ok (.iconst (-1), 1) := by decide +kernel
theorem dX1_create_30 : decode cX1_create 30 = .ok (.ireturn, 1) := by decide +kernel
theorem dX1_create_31 : decode cX1_create 31 = .ok (.aload_n 0, 1) := by decide +kernel
theorem dX1_create_32 : decode cX1_create 32 = .ok (.getfield 46, 3) := by decide +kernel
theorem dX1_create_35 : decode cX1_create 35 = .ok (.ifCond .eq 6, 3) := by decide +kernel
theorem dX1_create_38 : decode cX1_create 38 = .ok (.bipush (-2), 2) := by decide +kernel
theorem dX1_create_40 : decode cX1_create 40 = .ok (.ireturn, 1) := by decide +kernel
theorem dX1_create_41 : decode cX1_create 41 = .ok (.aload_n 0, 1) := by decide +kernel
theorem dX1_create_42 : decode cX1_create 42 = .ok (.invokevirtual 49, 3) := by decide +kernel
theorem dX1_create_45 : decode cX1_create 45 = .ok (.aload_n 0, 1) := by decide +kernel
theorem dX1_create_46 : decode cX1_create 46 = .ok (.getfield 7, 3) := by decide +kernel
theorem dX1_create_49 : decode cX1_create 49 = .ok (.iload_n 1, 1) := by decide +kernel
theorem dX1_create_50 : decode cX1_create 50 = .ok (.iload_n 2, 1) := by decide +kernel
theorem dX1_create_51 : decode cX1_create 51 = .ok (.iastore, 1) := by decide +kernel
theorem dX1_create_52 : decode cX1_create 52 = .ok (.aload_n 0, 1) := by decide +kernel
theorem dX1_create_53 : decode cX1_create 53 = .ok (.getfield 13, 3) := by decide +kernel
theorem dX1_create_56 : decode cX1_create 56 = .ok (.iload_n 1, 1) := by decide +kernel
theorem dX1_create_57 : decode cX1_create 57 = .ok (.iload_n 3, 1) := by decide +kernel
theorem dX1_create_58 : decode cX1_create 58 = .ok (.bastore, 1) := by decide +kernel
theorem dX1_create_59 : decode cX1_create 59 = .ok (.iconst 0, 1) := by decide +kernel
theorem dX1_create_60 : decode cX1_create 60 = .ok (.istore 4, 2) := by decide +kernel
theorem dX1_create_62 : decode cX1_create 62 = .ok (.iload 4, 2) := by decide +kernel
theorem dX1_create_64 : decode cX1_create 64 = .ok (.bipush 16, 2) := by decide +kernel
theorem dX1_create_66 : decode cX1_create 66 = .ok (.if_icmp .ge 22, 3) := by decide +kernel
theorem dX1_create_69 : decode cX1_create 69 = .ok (.aload_n 0, 1) := by decide +kernel
theorem dX1_create_70 : decode cX1_create 70 = .ok (.getfield 17, 3) := by decide +kernel
theorem dX1_create_73 : decode cX1_create 73 = .ok (.bipush 16, 2) := by decide +kernel
theorem dX1_create_75 : decode cX1_create 75 = .ok (.iload_n 1, 1) := by decide +kernel
theorem dX1_create_76 : decode cX1_create 76 = .ok (.imul, 1) := by decide +kernel
theorem dX1_create_77 : decode cX1_create 77 = .ok (.iload 4, 2) := by decide +kernel
theorem dX1_create_79 : decode cX1_create 79 = .ok (.iadd, 1) := by decide +kernel
theorem dX1_create_80 : decode cX1_create 80 = .ok (.iconst 0, 1) := by decide +kernel
theorem dX1_create_81 : decode cX1_create 81 = .ok (.iastore, 1) := by decide +kernel
theorem dX1_create_82 : decode cX1_create 82 = .ok (.iinc 4 1, 3) := by decide +kernel
theorem dX1_create_85 : decode cX1_create 85 = .ok (.goto (-23), 3) := by decide +kernel
theorem dX1_create_88 : decode cX1_create 88 = .ok (.iconst 0, 1) := by decide +kernel
theorem dX1_create_89 : decode cX1_create 89 = .ok (.ireturn, 1) := by decide +kernel
abbrev cX1_keep : ByteArray := prog_3_method_2_code
def yX1_keep : MethodName := ⟨RX1, "keep", "()V"⟩
theorem dX1_keep_0 : decode cX1_keep 0 = .ok (.iconst 0, 1) := by decide +kernel
theorem dX1_keep_1 : decode cX1_keep 1 = .ok (.istore_n 1, 1) := by decide +kernel
theorem dX1_keep_2 : decode cX1_keep 2 = .ok (.iload_n 1, 1) := by decide +kernel
theorem dX1_keep_3 : decode cX1_keep 3 = .ok (.bipush 6, 2) := by decide +kernel
theorem dX1_keep_5 : decode cX1_keep 5 = .ok (.if_icmp .ge 33, 3) := by decide +kernel
theorem dX1_keep_8 : decode cX1_keep 8 = .ok (.aload_n 0, 1) := by decide +kernel
theorem dX1_keep_9 : decode cX1_keep 9 = .ok (.getfield 30, 3) := by decide +kernel
theorem dX1_keep_12 : decode cX1_keep 12 = .ok (.iload_n 1, 1) := by decide +kernel
theorem dX1_keep_13 : decode cX1_keep 13 = .ok (.aload_n 0, 1) := by decide +kernel
theorem dX1_keep_14 : decode cX1_keep 14 = .ok (.getfield 7, 3) := by decide +kernel
theorem dX1_keep_17 : decode cX1_keep 17 = .ok (.iload_n 1, 1) := by decide +kernel
theorem dX1_keep_18 : decode cX1_keep 18 = .ok (.iaload, 1) := by decide +kernel
theorem dX1_keep_19 : decode cX1_keep 19 = .ok (.iastore, 1) := by decide +kernel
theorem dX1_keep_20 : decode cX1_keep 20 = .ok (.aload_n 0, 1) := by decide +kernel
theorem dX1_keep_21 : decode cX1_keep 21 = .ok (.getfield 33, 3) := by decide +kernel
theorem dX1_keep_24 : decode cX1_keep 24 = .ok (.iload_n 1, 1) := by decide +kernel
theorem dX1_keep_25 : decode cX1_keep 25 = .ok (.aload_n 0, 1) := by decide +kernel
theorem dX1_keep_26 : decode cX1_keep 26 = .ok (.getfield 13, 3) := by decide +kernel
theorem dX1_keep_29 : decode cX1_keep 29 = .ok (.iload_n 1, 1) := by decide +kernel
theorem dX1_keep_30 : decode cX1_keep 30 = .ok (.baload, 1) := by decide +kernel
theorem dX1_keep_31 : decode cX1_keep 31 = .ok (.bastore, 1) := by decide +kernel
theorem dX1_keep_32 : decode cX1_keep 32 = .ok (.iinc 1 1, 3) := by decide +kernel
theorem dX1_keep_35 : decode cX1_keep 35 = .ok (.goto (-33), 3) := by decide +kernel
theorem dX1_keep_38 : decode cX1_keep 38 = .ok (.iconst 0, 1) := by decide +kernel
theorem dX1_keep_39 : decode cX1_keep 39 = .ok (.istore_n 1, 1) := by decide +kernel
theorem dX1_keep_40 : decode cX1_keep 40 = .ok (.iload_n 1, 1) := by decide +kernel
theorem dX1_keep_41 : decode cX1_keep 41 = .ok (.bipush 96, 2) := by decide +kernel
theorem dX1_keep_43 : decode cX1_keep 43 = .ok (.if_icmp .ge 21, 3) := by decide +kernel
theorem dX1_keep_46 : decode cX1_keep 46 = .ok (.aload_n 0, 1) := by decide +kernel
theorem dX1_keep_47 : decode cX1_keep 47 = .ok (.getfield 36, 3) := by decide +kernel
theorem dX1_keep_50 : decode cX1_keep 50 = .ok (.iload_n 1, 1) := by decide +kernel
theorem dX1_keep_51 : decode cX1_keep 51 = .ok (.aload_n 0, 1) := by decide +kernel
theorem dX1_keep_52 : decode cX1_keep 52 = .ok (.getfield 17, 3) := by decide +kernel
theorem dX1_keep_55 : decode cX1_keep 55 = .ok (.iload_n 1, 1) := by decide +kernel
theorem dX1_keep_56 : decode cX1_keep 56 = .ok (.iaload, 1) := by decide +kernel
theorem dX1_keep_57 : decode cX1_keep 57 = .ok (.iastore, 1) := by decide +kernel
theorem dX1_keep_58 : decode cX1_keep 58 = .ok (.iinc 1 1, 3) := by decide +kernel
theorem dX1_keep_61 : decode cX1_keep 61 = .ok (.goto (-21), 3) := by decide +kernel
theorem dX1_keep_64 : decode cX1_keep 64 = .ok (.aload_n 0, 1) := by decide +kernel
theorem dX1_keep_65 : decode cX1_keep 65 = .ok (.aload_n 0, 1) := by decide +kernel
theorem dX1_keep_66 : decode cX1_keep 66 = .ok (.getfield 20, 3) := by decide +kernel
theorem dX1_keep_69 : decode cX1_keep 69 = .ok (.putfield 39, 3) := by decide +kernel
theorem dX1_keep_72 : decode cX1_keep 72 = .ok (.aload_n 0, 1) := by decide +kernel
theorem dX1_keep_73 : decode cX1_keep 73 = .ok (.iconst 1, 1) := by decide +kernel
theorem dX1_keep_74 : decode cX1_keep 74 = .ok (.putfield 42, 3) := by decide +kernel
theorem dX1_keep_77 : decode cX1_keep 77 = .ok (.return_, 1) := by decide +kernel
abbrev cX1_update : ByteArray := prog_3_method_5_code
def yX1_update : MethodName := ⟨RX1, "update", "(III)I"⟩
theorem dX1_update_0 : decode cX1_update 0 = .ok (.aload_n 0, 1) := by decide +kernel
theorem dX1_update_1 : decode cX1_update 1 = .ok (.iload_n 1, 1) := by decide +kernel
theorem dX1_update_2 : decode cX1_update 2 = .ok (.iload_n 2, 1) := by decide +kernel
theorem dX1_update_3 : decode cX1_update 3 = .ok (.invokevirtual 55, 3) := by decide +kernel
theorem dX1_update_6 : decode cX1_update 6 = .ok (.istore 4, 2) := by decide +kernel
theorem dX1_update_8 : decode cX1_update 8 = .ok (.iload 4, 2) := by decide +kernel
theorem dX1_update_10 : decode cX1_update 10 = .ok (.ifCond .ge 6, 3) := by decide +kernel
theorem dX1_update_13 : decode cX1_update 13 = .ok (.iload 4, 2) := by decide +kernel
theorem dX1_update_15 : decode cX1_update 15 = .ok (.ireturn, 1) := by decide +kernel
theorem dX1_update_16 : decode cX1_update 16 = .ok (.aload_n 0, 1) := by decide +kernel
theorem dX1_update_17 : decode cX1_update 17 = .ok (.getfield 46, 3) := by decide +kernel
theorem dX1_update_20 : decode cX1_update 20 = .ok (.ifCond .eq 21, 3) := by decide +kernel
theorem dX1_update_23 : decode cX1_update 23 = .ok (.aload_n 0, 1) := by decide +kernel
theorem dX1_update_24 : decode cX1_update 24 = .ok (.getfield 27, 3) := by decide +kernel
theorem dX1_update_27 : decode cX1_update 27 = .ok (.bipush 16, 2) := by decide +kernel
theorem dX1_update_29 : decode cX1_update 29 = .ok (.iload_n 1, 1) := by decide +kernel
theorem dX1_update_30 : decode cX1_update 30 = .ok (.imul, 1) := by decide +kernel
theorem dX1_update_31 : decode cX1_update 31 = .ok (.iload_n 2, 1) := by decide +kernel
theorem dX1_update_32 : decode cX1_update 32 = .ok (.iadd, 1) := by decide +kernel
theorem dX1_update_33 : decode cX1_update 33 = .ok (.iload_n 3, 1) := by decide +kernel
theorem dX1_update_34 : decode cX1_update 34 = .ok (.sipush 255, 3) := by decide +kernel
theorem dX1_update_37 : decode cX1_update 37 = .ok (.iand, 1) := by decide +kernel
theorem dX1_update_38 : decode cX1_update 38 = .ok (.iastore, 1) := by decide +kernel
theorem dX1_update_39 : decode cX1_update 39 = .ok (.iconst 0, 1) := by decide +kernel
theorem dX1_update_40 : decode cX1_update 40 = .ok (.ireturn, 1) := by decide +kernel
theorem dX1_update_41 : decode cX1_update 41 = .ok (.aload_n 0, 1) := by decide +kernel
theorem dX1_update_42 : decode cX1_update 42 = .ok (.invokevirtual 49, 3) := by decide +kernel
theorem dX1_update_45 : decode cX1_update 45 = .ok (.aload_n 0, 1) := by decide +kernel
theorem dX1_update_46 : decode cX1_update 46 = .ok (.getfield 17, 3) := by decide +kernel
theorem dX1_update_49 : decode cX1_update 49 = .ok (.bipush 16, 2) := by decide +kernel
theorem dX1_update_51 : decode cX1_update 51 = .ok (.iload_n 1, 1) := by decide +kernel
theorem dX1_update_52 : decode cX1_update 52 = .ok (.imul, 1) := by decide +kernel
theorem dX1_update_53 : decode cX1_update 53 = .ok (.iload_n 2, 1) := by decide +kernel
theorem dX1_update_54 : decode cX1_update 54 = .ok (.iadd, 1) := by decide +kernel
theorem dX1_update_55 : decode cX1_update 55 = .ok (.iload_n 3, 1) := by decide +kernel
theorem dX1_update_56 : decode cX1_update 56 = .ok (.sipush 255, 3) := by decide +kernel
theorem dX1_update_59 : decode cX1_update 59 = .ok (.iand, 1) := by decide +kernel
theorem dX1_update_60 : decode cX1_update 60 = .ok (.iastore, 1) := by decide +kernel
theorem dX1_update_61 : decode cX1_update 61 = .ok (.iconst 0, 1) := by decide +kernel
theorem dX1_update_62 : decode cX1_update 62 = .ok (.ireturn, 1) := by decide +kernel
abbrev cX1_refuse : ByteArray := prog_3_method_4_code
def yX1_refuse : MethodName := ⟨RX1, "refuse", "(II)I"⟩
theorem dX1_refuse_0 : decode cX1_refuse 0 = .ok (.iload_n 1, 1) := by decide +kernel
theorem dX1_refuse_1 : decode cX1_refuse 1 = .ok (.ifCond .lt 22, 3) := by decide +kernel
theorem dX1_refuse_4 : decode cX1_refuse 4 = .ok (.iload_n 1, 1) := by decide +kernel
theorem dX1_refuse_5 : decode cX1_refuse 5 = .ok (.iconst 5, 1) := by decide +kernel
theorem dX1_refuse_6 : decode cX1_refuse 6 = .ok (.if_icmp .gt 17, 3) := by decide +kernel
theorem dX1_refuse_9 : decode cX1_refuse 9 = .ok (.iload_n 2, 1) := by decide +kernel
theorem dX1_refuse_10 : decode cX1_refuse 10 = .ok (.ifCond .lt 13, 3) := by decide +kernel
theorem dX1_refuse_13 : decode cX1_refuse 13 = .ok (.iload_n 2, 1) := by decide +kernel
theorem dX1_refuse_14 : decode cX1_refuse 14 = .ok (.aload_n 0, 1) := by decide +kernel
theorem dX1_refuse_15 : decode cX1_refuse 15 = .ok (.getfield 7, 3) := by decide +kernel
theorem dX1_refuse_18 : decode cX1_refuse 18 = .ok (.iload_n 1, 1) := by decide +kernel
theorem dX1_refuse_19 : decode cX1_refuse 19 = .ok (.iaload, 1) := by decide +kernel
theorem dX1_refuse_20 : decode cX1_refuse 20 = .ok (.if_icmp .lt 5, 3) := by decide +kernel
theorem dX1_refuse_23 : decode cX1_refuse 23 = .ok (.iconst (-1), 1) := by decide +kernel
theorem dX1_refuse_24 : decode cX1_refuse 24 = .ok (.ireturn, 1) := by decide +kernel
theorem dX1_refuse_25 : decode cX1_refuse 25 = .ok (.aload_n 0, 1) := by decide +kernel
theorem dX1_refuse_26 : decode cX1_refuse 26 = .ok (.getfield 13, 3) := by decide +kernel
theorem dX1_refuse_29 : decode cX1_refuse 29 = .ok (.iload_n 1, 1) := by decide +kernel
theorem dX1_refuse_30 : decode cX1_refuse 30 = .ok (.baload, 1) := by decide +kernel
theorem dX1_refuse_31 : decode cX1_refuse 31 = .ok (.ifCond .eq 15, 3) := by decide +kernel
theorem dX1_refuse_34 : decode cX1_refuse 34 = .ok (.aload_n 0, 1) := by decide +kernel
theorem dX1_refuse_35 : decode cX1_refuse 35 = .ok (.getfield 52, 3) := by decide +kernel
theorem dX1_refuse_38 : decode cX1_refuse 38 = .ok (.ifCond .ne 8, 3) := by decide +kernel
theorem dX1_refuse_41 : decode cX1_refuse 41 = .ok (.bipush (-3), 2) := by decide +kernel
theorem dX1_refuse_43 : decode cX1_refuse 43 = .ok (.goto 4, 3) := by decide +kernel
theorem dX1_refuse_46 : decode cX1_refuse 46 = .ok (.iconst 0, 1) := by decide +kernel
theorem dX1_refuse_47 : decode cX1_refuse 47 = .ok (.ireturn, 1) := by decide +kernel
abbrev cX1_read : ByteArray := prog_3_method_6_code
def yX1_read : MethodName := ⟨RX1, "read", "(II)I"⟩
theorem dX1_read_0 : decode cX1_read 0 = .ok (.aload_n 0, 1) := by decide +kernel
theorem dX1_read_1 : decode cX1_read 1 = .ok (.iload_n 1, 1) := by decide +kernel
theorem dX1_read_2 : decode cX1_read 2 = .ok (.iload_n 2, 1) := by decide +kernel
theorem dX1_read_3 : decode cX1_read 3 = .ok (.invokevirtual 55, 3) := by decide +kernel
theorem dX1_read_6 : decode cX1_read 6 = .ok (.istore_n 3, 1) := by decide +kernel
theorem dX1_read_7 : decode cX1_read 7 = .ok (.iload_n 3, 1) := by decide +kernel
theorem dX1_read_8 : decode cX1_read 8 = .ok (.ifCond .ge 5, 3) := by decide +kernel
theorem dX1_read_11 : decode cX1_read 11 = .ok (.iload_n 3, 1) := by decide +kernel
theorem dX1_read_12 : decode cX1_read 12 = .ok (.ireturn, 1) := by decide +kernel
theorem dX1_read_13 : decode cX1_read 13 = .ok (.aload_n 0, 1) := by decide +kernel
theorem dX1_read_14 : decode cX1_read 14 = .ok (.getfield 46, 3) := by decide +kernel
theorem dX1_read_17 : decode cX1_read 17 = .ok (.ifCond .eq 17, 3) := by decide +kernel
theorem dX1_read_20 : decode cX1_read 20 = .ok (.aload_n 0, 1) := by decide +kernel
theorem dX1_read_21 : decode cX1_read 21 = .ok (.getfield 27, 3) := by decide +kernel
theorem dX1_read_24 : decode cX1_read 24 = .ok (.bipush 16, 2) := by decide +kernel
theorem dX1_read_26 : decode cX1_read 26 = .ok (.iload_n 1, 1) := by decide +kernel
theorem dX1_read_27 : decode cX1_read 27 = .ok (.imul, 1) := by decide +kernel
theorem dX1_read_28 : decode cX1_read 28 = .ok (.iload_n 2, 1) := by decide +kernel
theorem dX1_read_29 : decode cX1_read 29 = .ok (.iadd, 1) := by decide +kernel
theorem dX1_read_30 : decode cX1_read 30 = .ok (.iaload, 1) := by decide +kernel
theorem dX1_read_31 : decode cX1_read 31 = .ok (.goto 14, 3) := by decide +kernel
theorem dX1_read_34 : decode cX1_read 34 = .ok (.aload_n 0, 1) := by decide +kernel
theorem dX1_read_35 : decode cX1_read 35 = .ok (.getfield 17, 3) := by decide +kernel
theorem dX1_read_38 : decode cX1_read 38 = .ok (.bipush 16, 2) := by decide +kernel
theorem dX1_read_40 : decode cX1_read 40 = .ok (.iload_n 1, 1) := by decide +kernel
theorem dX1_read_41 : decode cX1_read 41 = .ok (.imul, 1) := by decide +kernel
theorem dX1_read_42 : decode cX1_read 42 = .ok (.iload_n 2, 1) := by decide +kernel
theorem dX1_read_43 : decode cX1_read 43 = .ok (.iadd, 1) := by decide +kernel
theorem dX1_read_44 : decode cX1_read 44 = .ok (.iaload, 1) := by decide +kernel
theorem dX1_read_45 : decode cX1_read 45 = .ok (.ireturn, 1) := by decide +kernel
abbrev cX1_begin : ByteArray := prog_3_method_7_code
def yX1_begin : MethodName := ⟨RX1, "begin", "()I"⟩
theorem dX1_begin_0 : decode cX1_begin 0 = .ok (.aload_n 0, 1) := by decide +kernel
theorem dX1_begin_1 : decode cX1_begin 1 = .ok (.getfield 46, 3) := by decide +kernel
theorem dX1_begin_4 : decode cX1_begin 4 = .ok (.ifCond .eq 6, 3) := by decide +kernel
theorem dX1_begin_7 : decode cX1_begin 7 = .ok (.bipush (-2), 2) := by decide +kernel
theorem dX1_begin_9 : decode cX1_begin 9 = .ok (.ireturn, 1) := by decide +kernel
theorem dX1_begin_10 : decode cX1_begin 10 = .ok (.aload_n 0, 1) := by decide +kernel
theorem dX1_begin_11 : decode cX1_begin 11 = .ok (.iconst 1, 1) := by decide +kernel
theorem dX1_begin_12 : decode cX1_begin 12 = .ok (.putfield 46, 3) := by decide +kernel
theorem dX1_begin_15 : decode cX1_begin 15 = .ok (.iconst 0, 1) := by decide +kernel
theorem dX1_begin_16 : decode cX1_begin 16 = .ok (.istore_n 1, 1) := by decide +kernel
theorem dX1_begin_17 : decode cX1_begin 17 = .ok (.iload_n 1, 1) := by decide +kernel
theorem dX1_begin_18 : decode cX1_begin 18 = .ok (.bipush 96, 2) := by decide +kernel
theorem dX1_begin_20 : decode cX1_begin 20 = .ok (.if_icmp .ge 21, 3) := by decide +kernel
theorem dX1_begin_23 : decode cX1_begin 23 = .ok (.aload_n 0, 1) := by decide +kernel
theorem dX1_begin_24 : decode cX1_begin 24 = .ok (.getfield 27, 3) := by decide +kernel
theorem dX1_begin_27 : decode cX1_begin 27 = .ok (.iload_n 1, 1) := by decide +kernel
theorem dX1_begin_28 : decode cX1_begin 28 = .ok (.aload_n 0, 1) := by decide +kernel
theorem dX1_begin_29 : decode cX1_begin 29 = .ok (.getfield 17, 3) := by decide +kernel
theorem dX1_begin_32 : decode cX1_begin 32 = .ok (.iload_n 1, 1) := by decide +kernel
theorem dX1_begin_33 : decode cX1_begin 33 = .ok (.iaload, 1) := by decide +kernel
theorem dX1_begin_34 : decode cX1_begin 34 = .ok (.iastore, 1) := by decide +kernel
theorem dX1_begin_35 : decode cX1_begin 35 = .ok (.iinc 1 1, 3) := by decide +kernel
theorem dX1_begin_38 : decode cX1_begin 38 = .ok (.goto (-21), 3) := by decide +kernel
theorem dX1_begin_41 : decode cX1_begin 41 = .ok (.iconst 0, 1) := by decide +kernel
theorem dX1_begin_42 : decode cX1_begin 42 = .ok (.ireturn, 1) := by decide +kernel
abbrev cX1_commit : ByteArray := prog_3_method_8_code
def yX1_commit : MethodName := ⟨RX1, "commit", "()I"⟩
theorem dX1_commit_0 : decode cX1_commit 0 = .ok (.aload_n 0, 1) := by decide +kernel
theorem dX1_commit_1 : decode cX1_commit 1 = .ok (.getfield 46, 3) := by decide +kernel
theorem dX1_commit_4 : decode cX1_commit 4 = .ok (.ifCond .ne 6, 3) := by decide +kernel
theorem dX1_commit_7 : decode cX1_commit 7 = .ok (.bipush (-2), 2) := by decide +kernel
theorem dX1_commit_9 : decode cX1_commit 9 = .ok (.ireturn, 1) := by decide +kernel
theorem dX1_commit_10 : decode cX1_commit 10 = .ok (.aload_n 0, 1) := by decide +kernel
theorem dX1_commit_11 : decode cX1_commit 11 = .ok (.invokevirtual 49, 3) := by decide +kernel
theorem dX1_commit_14 : decode cX1_commit 14 = .ok (.iconst 0, 1) := by decide +kernel
theorem dX1_commit_15 : decode cX1_commit 15 = .ok (.istore_n 1, 1) := by decide +kernel
theorem dX1_commit_16 : decode cX1_commit 16 = .ok (.iload_n 1, 1) := by decide +kernel
theorem dX1_commit_17 : decode cX1_commit 17 = .ok (.bipush 96, 2) := by decide +kernel
theorem dX1_commit_19 : decode cX1_commit 19 = .ok (.if_icmp .ge 21, 3) := by decide +kernel
theorem dX1_commit_22 : decode cX1_commit 22 = .ok (.aload_n 0, 1) := by decide +kernel
theorem dX1_commit_23 : decode cX1_commit 23 = .ok (.getfield 17, 3) := by decide +kernel
theorem dX1_commit_26 : decode cX1_commit 26 = .ok (.iload_n 1, 1) := by decide +kernel
theorem dX1_commit_27 : decode cX1_commit 27 = .ok (.aload_n 0, 1) := by decide +kernel
theorem dX1_commit_28 : decode cX1_commit 28 = .ok (.getfield 27, 3) := by decide +kernel
theorem dX1_commit_31 : decode cX1_commit 31 = .ok (.iload_n 1, 1) := by decide +kernel
theorem dX1_commit_32 : decode cX1_commit 32 = .ok (.iaload, 1) := by decide +kernel
theorem dX1_commit_33 : decode cX1_commit 33 = .ok (.iastore, 1) := by decide +kernel
theorem dX1_commit_34 : decode cX1_commit 34 = .ok (.iinc 1 1, 3) := by decide +kernel
theorem dX1_commit_37 : decode cX1_commit 37 = .ok (.goto (-21), 3) := by decide +kernel
theorem dX1_commit_40 : decode cX1_commit 40 = .ok (.aload_n 0, 1) := by decide +kernel
theorem dX1_commit_41 : decode cX1_commit 41 = .ok (.iconst 0, 1) := by decide +kernel
theorem dX1_commit_42 : decode cX1_commit 42 = .ok (.putfield 46, 3) := by decide +kernel
theorem dX1_commit_45 : decode cX1_commit 45 = .ok (.iconst 0, 1) := by decide +kernel
theorem dX1_commit_46 : decode cX1_commit 46 = .ok (.ireturn, 1) := by decide +kernel
abbrev cX1_abort : ByteArray := prog_3_method_9_code
def yX1_abort : MethodName := ⟨RX1, "abort", "()I"⟩
theorem dX1_abort_0 : decode cX1_abort 0 = .ok (.aload_n 0, 1) := by decide +kernel
theorem dX1_abort_1 : decode cX1_abort 1 = .ok (.getfield 46, 3) := by decide +kernel
theorem dX1_abort_4 : decode cX1_abort 4 = .ok (.ifCond .ne 6, 3) := by decide +kernel
theorem dX1_abort_7 : decode cX1_abort 7 = .ok (.bipush (-2), 2) := by decide +kernel
theorem dX1_abort_9 : decode cX1_abort 9 = .ok (.ireturn, 1) := by decide +kernel
theorem dX1_abort_10 : decode cX1_abort 10 = .ok (.aload_n 0, 1) := by decide +kernel
theorem dX1_abort_11 : decode cX1_abort 11 = .ok (.iconst 0, 1) := by decide +kernel
theorem dX1_abort_12 : decode cX1_abort 12 = .ok (.putfield 46, 3) := by decide +kernel
theorem dX1_abort_15 : decode cX1_abort 15 = .ok (.iconst 0, 1) := by decide +kernel
theorem dX1_abort_16 : decode cX1_abort 16 = .ok (.ireturn, 1) := by decide +kernel
abbrev cX1_verify : ByteArray := prog_3_method_10_code
def yX1_verify : MethodName := ⟨RX1, "verify", "(I)I"⟩
theorem dX1_verify_0 : decode cX1_verify 0 = .ok (.aload_n 0, 1) := by decide +kernel
theorem dX1_verify_1 : decode cX1_verify 1 = .ok (.getfield 24, 3) := by decide +kernel
theorem dX1_verify_4 : decode cX1_verify 4 = .ok (.ifCond .ne 6, 3) := by decide +kernel
theorem dX1_verify_7 : decode cX1_verify 7 = .ok (.bipush (-4), 2) := by decide +kernel
theorem dX1_verify_9 : decode cX1_verify 9 = .ok (.ireturn, 1) := by decide +kernel
theorem dX1_verify_10 : decode cX1_verify 10 = .ok (.aload_n 0, 1) := by decide +kernel
theorem dX1_verify_11 : decode cX1_verify 11 = .ok (.iload_n 1, 1) := by decide +kernel
theorem dX1_verify_12 : decode cX1_verify 12 = .ok (.aload_n 0, 1) := by decide +kernel
theorem dX1_verify_13 : decode cX1_verify 13 = .ok (.getfield 20, 3) := by decide +kernel
theorem dX1_verify_16 : decode cX1_verify 16 = .ok (.if_icmp .ne 7, 3) := by decide +kernel
theorem dX1_verify_19 : decode cX1_verify 19 = .ok (.iconst 1, 1) := by decide +kernel
theorem dX1_verify_20 : decode cX1_verify 20 = .ok (.goto 4, 3) := by decide +kernel
theorem dX1_verify_23 : decode cX1_verify 23 = .ok (.iconst 0, 1) := by decide +kernel
theorem dX1_verify_24 : decode cX1_verify 24 = .ok (.putfield 52, 3) := by decide +kernel
theorem dX1_verify_27 : decode cX1_verify 27 = .ok (.aload_n 0, 1) := by decide +kernel
theorem dX1_verify_28 : decode cX1_verify 28 = .ok (.aload_n 0, 1) := by decide +kernel
theorem dX1_verify_29 : decode cX1_verify 29 = .ok (.getfield 52, 3) := by decide +kernel
theorem dX1_verify_32 : decode cX1_verify 32 = .ok (.ifCond .eq 7, 3) := by decide +kernel
theorem dX1_verify_35 : decode cX1_verify 35 = .ok (.iconst 3, 1) := by decide +kernel
theorem dX1_verify_36 : decode cX1_verify 36 = .ok (.goto 9, 3) := by decide +kernel
theorem dX1_verify_39 : decode cX1_verify 39 = .ok (.aload_n 0, 1) := by decide +kernel
theorem dX1_verify_40 : decode cX1_verify 40 = .ok (.getfield 24, 3) := by decide +kernel
theorem dX1_verify_43 : decode cX1_verify 43 = .ok (.iconst 1, 1) := by decide +kernel
theorem dX1_verify_44 : decode cX1_verify 44 = .ok (.isub, 1) := by decide +kernel
theorem dX1_verify_45 : decode cX1_verify 45 = .ok (.putfield 24, 3) := by decide +kernel
theorem dX1_verify_48 : decode cX1_verify 48 = .ok (.aload_n 0, 1) := by decide +kernel
theorem dX1_verify_49 : decode cX1_verify 49 = .ok (.getfield 24, 3) := by decide +kernel
theorem dX1_verify_52 : decode cX1_verify 52 = .ok (.ireturn, 1) := by decide +kernel
abbrev cX1_change : ByteArray := prog_3_method_11_code
def yX1_change : MethodName := ⟨RX1, "change", "(I)I"⟩
theorem dX1_change_0 : decode cX1_change 0 = .ok (.iload_n 1, 1) := by decide +kernel
theorem dX1_change_1 : decode cX1_change 1 = .ok (.ifCond .lt 10, 3) := by decide +kernel
theorem dX1_change_4 : decode cX1_change 4 = .ok (.iload_n 1, 1) := by decide +kernel
theorem dX1_change_5 : decode cX1_change 5 = .ok (.sipush 9999, 3) := by decide +kernel
theorem dX1_change_8 : decode cX1_change 8 = .ok (.if_icmp .le 5, 3) := by decide +kernel
theorem dX1_change_11 : decode cX1_change 11 = .ok (.iconst (-1), 1) := by decide +kernel
theorem dX1_change_12 : decode cX1_change 12 = .ok (.ireturn, 1) := by decide +kernel
theorem dX1_change_13 : decode cX1_change 13 = .ok (.aload_n 0, 1) := by decide +kernel
theorem dX1_change_14 : decode cX1_change 14 = .ok (.getfield 52, 3) := by decide +kernel
theorem dX1_change_17 : decode cX1_change 17 = .ok (.ifCond .ne 6, 3) := by decide +kernel
theorem dX1_change_20 : decode cX1_change 20 = .ok (.bipush (-3), 2) := by decide +kernel
theorem dX1_change_22 : decode cX1_change 22 = .ok (.ireturn, 1) := by decide +kernel
theorem dX1_change_23 : decode cX1_change 23 = .ok (.aload_n 0, 1) := by decide +kernel
theorem dX1_change_24 : decode cX1_change 24 = .ok (.getfield 46, 3) := by decide +kernel
theorem dX1_change_27 : decode cX1_change 27 = .ok (.ifCond .eq 6, 3) := by decide +kernel
theorem dX1_change_30 : decode cX1_change 30 = .ok (.bipush (-2), 2) := by decide +kernel
theorem dX1_change_32 : decode cX1_change 32 = .ok (.ireturn, 1) := by decide +kernel
theorem dX1_change_33 : decode cX1_change 33 = .ok (.aload_n 0, 1) := by decide +kernel
theorem dX1_change_34 : decode cX1_change 34 = .ok (.invokevirtual 49, 3) := by decide +kernel
theorem dX1_change_37 : decode cX1_change 37 = .ok (.aload_n 0, 1) := by decide +kernel
theorem dX1_change_38 : decode cX1_change 38 = .ok (.iload_n 1, 1) := by decide +kernel
theorem dX1_change_39 : decode cX1_change 39 = .ok (.putfield 20, 3) := by decide +kernel
theorem dX1_change_42 : decode cX1_change 42 = .ok (.iconst 0, 1) := by decide +kernel
theorem dX1_change_43 : decode cX1_change 43 = .ok (.ireturn, 1) := by decide +kernel
abbrev cX1_power : ByteArray := prog_3_method_12_code
def yX1_power : MethodName := ⟨RX1, "power", "()V"⟩
theorem dX1_power_0 : decode cX1_power 0 = .ok (.aload_n 0, 1) := by decide +kernel
theorem dX1_power_1 : decode cX1_power 1 = .ok (.iconst 0, 1) := by decide +kernel
theorem dX1_power_2 : decode cX1_power 2 = .ok (.putfield 46, 3) := by decide +kernel
theorem dX1_power_5 : decode cX1_power 5 = .ok (.aload_n 0, 1) := by decide +kernel
theorem dX1_power_6 : decode cX1_power 6 = .ok (.iconst 0, 1) := by decide +kernel
theorem dX1_power_7 : decode cX1_power 7 = .ok (.putfield 52, 3) := by decide +kernel
theorem dX1_power_10 : decode cX1_power 10 = .ok (.aload_n 0, 1) := by decide +kernel
theorem dX1_power_11 : decode cX1_power 11 = .ok (.iconst 0, 1) := by decide +kernel
theorem dX1_power_12 : decode cX1_power 12 = .ok (.putfield 42, 3) := by decide +kernel
theorem dX1_power_15 : decode cX1_power 15 = .ok (.return_, 1) := by decide +kernel
abbrev cX1_torn : ByteArray := prog_3_method_13_code
def yX1_torn : MethodName := ⟨RX1, "torn", "(ZI)V"⟩
theorem dX1_torn_0 : decode cX1_torn 0 = .ok (.aload_n 0, 1) := by decide +kernel
theorem dX1_torn_1 : decode cX1_torn 1 = .ok (.getfield 42, 3) := by decide +kernel
theorem dX1_torn_4 : decode cX1_torn 4 = .ok (.ifCond .eq 79, 3) := by decide +kernel
theorem dX1_torn_7 : decode cX1_torn 7 = .ok (.iload_n 1, 1) := by decide +kernel
theorem dX1_torn_8 : decode cX1_torn 8 = .ok (.ifCond .ne 75, 3) := by decide +kernel
theorem dX1_torn_11 : decode cX1_torn 11 = .ok (.iconst 0, 1) := by decide +kernel
theorem dX1_torn_12 : decode cX1_torn 12 = .ok (.istore_n 3, 1) := by decide +kernel
theorem dX1_torn_13 : decode cX1_torn 13 = .ok (.iload_n 3, 1) := by decide +kernel
theorem dX1_torn_14 : decode cX1_torn 14 = .ok (.bipush 6, 2) := by decide +kernel
theorem dX1_torn_16 : decode cX1_torn 16 = .ok (.if_icmp .ge 33, 3) := by decide +kernel
theorem dX1_torn_19 : decode cX1_torn 19 = .ok (.aload_n 0, 1) := by decide +kernel
theorem dX1_torn_20 : decode cX1_torn 20 = .ok (.getfield 7, 3) := by decide +kernel
theorem dX1_torn_23 : decode cX1_torn 23 = .ok (.iload_n 3, 1) := by decide +kernel
theorem dX1_torn_24 : decode cX1_torn 24 = .ok (.aload_n 0, 1) := by decide +kernel
theorem dX1_torn_25 : decode cX1_torn 25 = .ok (.getfield 30, 3) := by decide +kernel
theorem dX1_torn_28 : decode cX1_torn 28 = .ok (.iload_n 3, 1) := by decide +kernel
theorem dX1_torn_29 : decode cX1_torn 29 = .ok (.iaload, 1) := by decide +kernel
theorem dX1_torn_30 : decode cX1_torn 30 = .ok (.iastore, 1) := by decide +kernel
theorem dX1_torn_31 : decode cX1_torn 31 = .ok (.aload_n 0, 1) := by decide +kernel
theorem dX1_torn_32 : decode cX1_torn 32 = .ok (.getfield 13, 3) := by decide +kernel
theorem dX1_torn_35 : decode cX1_torn 35 = .ok (.iload_n 3, 1) := by decide +kernel
theorem dX1_torn_36 : decode cX1_torn 36 = .ok (.aload_n 0, 1) := by decide +kernel
theorem dX1_torn_37 : decode cX1_torn 37 = .ok (.getfield 33, 3) := by decide +kernel
theorem dX1_torn_40 : decode cX1_torn 40 = .ok (.iload_n 3, 1) := by decide +kernel
theorem dX1_torn_41 : decode cX1_torn 41 = .ok (.baload, 1) := by decide +kernel
theorem dX1_torn_42 : decode cX1_torn 42 = .ok (.bastore, 1) := by decide +kernel
theorem dX1_torn_43 : decode cX1_torn 43 = .ok (.iinc 3 1, 3) := by decide +kernel
theorem dX1_torn_46 : decode cX1_torn 46 = .ok (.goto (-33), 3) := by decide +kernel
theorem dX1_torn_49 : decode cX1_torn 49 = .ok (.iconst 0, 1) := by decide +kernel
theorem dX1_torn_50 : decode cX1_torn 50 = .ok (.istore_n 3, 1) := by decide +kernel
theorem dX1_torn_51 : decode cX1_torn 51 = .ok (.iload_n 3, 1) := by decide +kernel
theorem dX1_torn_52 : decode cX1_torn 52 = .ok (.bipush 96, 2) := by decide +kernel
theorem dX1_torn_54 : decode cX1_torn 54 = .ok (.if_icmp .ge 21, 3) := by decide +kernel
theorem dX1_torn_57 : decode cX1_torn 57 = .ok (.aload_n 0, 1) := by decide +kernel
theorem dX1_torn_58 : decode cX1_torn 58 = .ok (.getfield 17, 3) := by decide +kernel
theorem dX1_torn_61 : decode cX1_torn 61 = .ok (.iload_n 3, 1) := by decide +kernel
theorem dX1_torn_62 : decode cX1_torn 62 = .ok (.aload_n 0, 1) := by decide +kernel
theorem dX1_torn_63 : decode cX1_torn 63 = .ok (.getfield 36, 3) := by decide +kernel
theorem dX1_torn_66 : decode cX1_torn 66 = .ok (.iload_n 3, 1) := by decide +kernel
theorem dX1_torn_67 : decode cX1_torn 67 = .ok (.iaload, 1) := by decide +kernel
theorem dX1_torn_68 : decode cX1_torn 68 = .ok (.iastore, 1) := by decide +kernel
theorem dX1_torn_69 : decode cX1_torn 69 = .ok (.iinc 3 1, 3) := by decide +kernel
theorem dX1_torn_72 : decode cX1_torn 72 = .ok (.goto (-21), 3) := by decide +kernel
theorem dX1_torn_75 : decode cX1_torn 75 = .ok (.aload_n 0, 1) := by decide +kernel
theorem dX1_torn_76 : decode cX1_torn 76 = .ok (.aload_n 0, 1) := by decide +kernel
theorem dX1_torn_77 : decode cX1_torn 77 = .ok (.getfield 39, 3) := by decide +kernel
theorem dX1_torn_80 : decode cX1_torn 80 = .ok (.putfield 20, 3) := by decide +kernel
theorem dX1_torn_83 : decode cX1_torn 83 = .ok (.aload_n 0, 1) := by decide +kernel
theorem dX1_torn_84 : decode cX1_torn 84 = .ok (.invokevirtual 59, 3) := by decide +kernel
theorem dX1_torn_87 : decode cX1_torn 87 = .ok (.return_, 1) := by decide +kernel
abbrev cX1_size : ByteArray := prog_3_method_14_code
def yX1_size : MethodName := ⟨RX1, "size", "(I)I"⟩
theorem dX1_size_0 : decode cX1_size 0 = .ok (.iload_n 1, 1) := by decide +kernel
theorem dX1_size_1 : decode cX1_size 1 = .ok (.ifCond .lt 8, 3) := by decide +kernel
theorem dX1_size_4 : decode cX1_size 4 = .ok (.iload_n 1, 1) := by decide +kernel
theorem dX1_size_5 : decode cX1_size 5 = .ok (.iconst 5, 1) := by decide +kernel
theorem dX1_size_6 : decode cX1_size 6 = .ok (.if_icmp .le 7, 3) := by decide +kernel
theorem dX1_size_9 : decode cX1_size 9 = .ok (.iconst 0, 1) := by decide +kernel
theorem dX1_size_10 : decode cX1_size 10 = .ok (.goto 9, 3) := by decide +kernel
theorem dX1_size_13 : decode cX1_size 13 = .ok (.aload_n 0, 1) := by decide +kernel
theorem dX1_size_14 : decode cX1_size 14 = .ok (.getfield 7, 3) := by decide +kernel
theorem dX1_size_17 : decode cX1_size 17 = .ok (.iload_n 1, 1) := by decide +kernel
theorem dX1_size_18 : decode cX1_size 18 = .ok (.iaload, 1) := by decide +kernel
theorem dX1_size_19 : decode cX1_size 19 = .ok (.ireturn, 1) := by decide +kernel
abbrev cX1_state : ByteArray := prog_3_method_15_code
def yX1_state : MethodName := ⟨RX1, "state", "()I"⟩
theorem dX1_state_0 : decode cX1_state 0 = .ok (.aload_n 0, 1) := by decide +kernel
theorem dX1_state_1 : decode cX1_state 1 = .ok (.getfield 24, 3) := by decide +kernel
theorem dX1_state_4 : decode cX1_state 4 = .ok (.aload_n 0, 1) := by decide +kernel
theorem dX1_state_5 : decode cX1_state 5 = .ok (.getfield 52, 3) := by decide +kernel
theorem dX1_state_8 : decode cX1_state 8 = .ok (.ifCond .eq 7, 3) := by decide +kernel
theorem dX1_state_11 : decode cX1_state 11 = .ok (.iconst 4, 1) := by decide +kernel
theorem dX1_state_12 : decode cX1_state 12 = .ok (.goto 4, 3) := by decide +kernel
theorem dX1_state_15 : decode cX1_state 15 = .ok (.iconst 0, 1) := by decide +kernel
theorem dX1_state_16 : decode cX1_state 16 = .ok (.iadd, 1) := by decide +kernel
theorem dX1_state_17 : decode cX1_state 17 = .ok (.ireturn, 1) := by decide +kernel
theorem q12 : (Jvm.Cond.initialized "CardFilesModel") ∈ lw_all := lw_g (lw_at lw_m0 2 rfl) rfl
theorem q133 : (Jvm.Cond.instantiable "CardFilesModel" (13 : Nat)) ∈ lw_all := lw_g (lw_at lw_m0 123 rfl) rfl
theorem q135 : (Jvm.Cond.instanceMethod ({ cls := "CardFilesModel", name := "<init>", desc := "()V" } : Jvm.MethodName)) ∈ lw_all := lw_g (lw_at lw_m0 125 rfl) rfl
theorem q136 : (Jvm.Cond.code ({ cls := "CardFilesModel", name := "<init>", desc := "()V" } : Jvm.MethodName) prog_3_method_1_code (1 : Nat) (Option.none : Option Jvm.ClassFile.FieldType)) ∈ lw_all := lw_g (lw_at lw_m0 126 rfl) rfl
theorem q137 : (Jvm.Cond.methodLink "CardFilesModel" (1 : Nat) ({ cls := "java/lang/Object", name := "<init>", desc := "()V" } : Jvm.MethodName)) ∈ lw_all := lw_g (lw_at lw_m0 127 rfl) rfl
theorem q138 : (Jvm.Cond.fieldLink "CardFilesModel" (7 : Nat) "CardFilesModel" "sizes" "[I") ∈ lw_all := lw_g (lw_at lw_m0 128 rfl) rfl
theorem q139 : (Jvm.Cond.fieldLink "CardFilesModel" (13 : Nat) "CardFilesModel" "guards" "[Z") ∈ lw_all := lw_g (lw_at lw_m0 129 rfl) rfl
theorem q140 : (Jvm.Cond.fieldLink "CardFilesModel" (17 : Nat) "CardFilesModel" "bytes" "[I") ∈ lw_all := lw_g (lw_at lw_m0 130 rfl) rfl
theorem q141 : (Jvm.Cond.fieldLink "CardFilesModel" (20 : Nat) "CardFilesModel" "code" "I") ∈ lw_all := lw_g (lw_at lw_m0 131 rfl) rfl
theorem q142 : (Jvm.Cond.fieldLink "CardFilesModel" (24 : Nat) "CardFilesModel" "tries" "I") ∈ lw_all := lw_g (lw_at lw_m0 132 rfl) rfl
theorem q143 : (Jvm.Cond.fieldLink "CardFilesModel" (52 : Nat) "CardFilesModel" "verified" "Z") ∈ lw_all := lw_g (lw_at lw_m0 133 rfl) rfl
theorem q144 : (Jvm.Cond.fieldLink "CardFilesModel" (46 : Nat) "CardFilesModel" "open" "Z") ∈ lw_all := lw_g (lw_at lw_m0 134 rfl) rfl
theorem q145 : (Jvm.Cond.fieldLink "CardFilesModel" (27 : Nat) "CardFilesModel" "seen" "[I") ∈ lw_all := lw_g (lw_at lw_m0 135 rfl) rfl
theorem q146 : (Jvm.Cond.fieldLink "CardFilesModel" (42 : Nat) "CardFilesModel" "changed" "Z") ∈ lw_all := lw_g (lw_at lw_m0 136 rfl) rfl
theorem q147 : (Jvm.Cond.fieldLink "CardFilesModel" (30 : Nat) "CardFilesModel" "oldSizes" "[I") ∈ lw_all := lw_g (lw_at lw_m0 137 rfl) rfl
theorem q148 : (Jvm.Cond.fieldLink "CardFilesModel" (33 : Nat) "CardFilesModel" "oldGuards" "[Z") ∈ lw_all := lw_g (lw_at lw_m0 138 rfl) rfl
theorem q149 : (Jvm.Cond.fieldLink "CardFilesModel" (36 : Nat) "CardFilesModel" "oldBytes" "[I") ∈ lw_all := lw_g (lw_at lw_m0 139 rfl) rfl
theorem q150 : (Jvm.Cond.fieldLink "CardFilesModel" (39 : Nat) "CardFilesModel" "oldCode" "I") ∈ lw_all := lw_g (lw_at lw_m0 140 rfl) rfl
theorem q151 : (Jvm.Cond.laysFinal "CardFilesModel" "CardFilesModel" "sizes" "[I") ∈ lw_all := lw_g (lw_at lw_m0 141 rfl) rfl
theorem q152 : (Jvm.Cond.soleField "CardFilesModel" "sizes") ∈ lw_all := lw_g (lw_at lw_m0 142 rfl) rfl
theorem q153 : (Jvm.Cond.laysFinal "CardFilesModel" "CardFilesModel" "guards" "[Z") ∈ lw_all := lw_g (lw_at lw_m0 143 rfl) rfl
theorem q154 : (Jvm.Cond.soleField "CardFilesModel" "guards") ∈ lw_all := lw_g (lw_at lw_m0 144 rfl) rfl
theorem q155 : (Jvm.Cond.laysFinal "CardFilesModel" "CardFilesModel" "bytes" "[I") ∈ lw_all := lw_g (lw_at lw_m0 145 rfl) rfl
theorem q156 : (Jvm.Cond.soleField "CardFilesModel" "bytes") ∈ lw_all := lw_g (lw_at lw_m0 146 rfl) rfl
theorem q157 : (Jvm.Cond.lays "CardFilesModel" "CardFilesModel" "code" "I") ∈ lw_all := lw_g (lw_at lw_m0 147 rfl) rfl
theorem q158 : (Jvm.Cond.soleField "CardFilesModel" "code") ∈ lw_all := lw_g (lw_at lw_m0 148 rfl) rfl
theorem q159 : (Jvm.Cond.lays "CardFilesModel" "CardFilesModel" "tries" "I") ∈ lw_all := lw_g (lw_at lw_m0 149 rfl) rfl
theorem q160 : (Jvm.Cond.soleField "CardFilesModel" "tries") ∈ lw_all := lw_g (lw_at lw_m0 150 rfl) rfl
theorem q161 : (Jvm.Cond.lays "CardFilesModel" "CardFilesModel" "verified" "Z") ∈ lw_all := lw_g (lw_at lw_m0 151 rfl) rfl
theorem q162 : (Jvm.Cond.soleField "CardFilesModel" "verified") ∈ lw_all := lw_g (lw_at lw_m0 152 rfl) rfl
theorem q163 : (Jvm.Cond.lays "CardFilesModel" "CardFilesModel" "open" "Z") ∈ lw_all := lw_g (lw_at lw_m0 153 rfl) rfl
theorem q164 : (Jvm.Cond.soleField "CardFilesModel" "open") ∈ lw_all := lw_g (lw_at lw_m0 154 rfl) rfl
theorem q165 : (Jvm.Cond.laysFinal "CardFilesModel" "CardFilesModel" "seen" "[I") ∈ lw_all := lw_g (lw_at lw_m0 155 rfl) rfl
theorem q166 : (Jvm.Cond.soleField "CardFilesModel" "seen") ∈ lw_all := lw_g (lw_at lw_m0 156 rfl) rfl
theorem q167 : (Jvm.Cond.lays "CardFilesModel" "CardFilesModel" "changed" "Z") ∈ lw_all := lw_g (lw_at lw_m0 157 rfl) rfl
theorem q168 : (Jvm.Cond.soleField "CardFilesModel" "changed") ∈ lw_all := lw_g (lw_at lw_m0 158 rfl) rfl
theorem q169 : (Jvm.Cond.laysFinal "CardFilesModel" "CardFilesModel" "oldSizes" "[I") ∈ lw_all := lw_g (lw_at lw_m0 159 rfl) rfl
theorem q170 : (Jvm.Cond.soleField "CardFilesModel" "oldSizes") ∈ lw_all := lw_g (lw_at lw_m0 160 rfl) rfl
theorem q171 : (Jvm.Cond.laysFinal "CardFilesModel" "CardFilesModel" "oldGuards" "[Z") ∈ lw_all := lw_g (lw_at lw_m0 161 rfl) rfl
theorem q172 : (Jvm.Cond.soleField "CardFilesModel" "oldGuards") ∈ lw_all := lw_g (lw_at lw_m0 162 rfl) rfl
theorem q173 : (Jvm.Cond.laysFinal "CardFilesModel" "CardFilesModel" "oldBytes" "[I") ∈ lw_all := lw_g (lw_at lw_m0 163 rfl) rfl
theorem q174 : (Jvm.Cond.soleField "CardFilesModel" "oldBytes") ∈ lw_all := lw_g (lw_at lw_m0 164 rfl) rfl
theorem q175 : (Jvm.Cond.lays "CardFilesModel" "CardFilesModel" "oldCode" "I") ∈ lw_all := lw_g (lw_at lw_m0 165 rfl) rfl
theorem q176 : (Jvm.Cond.soleField "CardFilesModel" "oldCode") ∈ lw_all := lw_g (lw_at lw_m0 166 rfl) rfl
theorem q177 : (Jvm.Cond.superclass "CardFilesModel" "java/lang/Object") ∈ lw_all := lw_g (lw_at lw_m0 167 rfl) rfl
theorem q179 : (Jvm.Cond.instanceMethod ({ cls := "CardFilesModel", name := "create", desc := "(IIZ)I" } : Jvm.MethodName)) ∈ lw_all := lw_g (lw_at lw_m0 169 rfl) rfl
theorem q180 : (Jvm.Cond.selects "CardFilesModel" ({ cls := "CardFilesModel", name := "create", desc := "(IIZ)I" } : Jvm.MethodName) ({ cls := "CardFilesModel", name := "create", desc := "(IIZ)I" } : Jvm.MethodName)) ∈ lw_all := lw_g (lw_at lw_m0 170 rfl) rfl
theorem q181 : (Jvm.Cond.code ({ cls := "CardFilesModel", name := "create", desc := "(IIZ)I" } : Jvm.MethodName) prog_3_method_3_code (5 : Nat) (Option.some Jvm.ClassFile.FieldType.int)) ∈ lw_all := lw_g (lw_at lw_m0 171 rfl) rfl
theorem q182 : (Jvm.Cond.methodLink "CardFilesModel" (49 : Nat) ({ cls := "CardFilesModel", name := "keep", desc := "()V" } : Jvm.MethodName)) ∈ lw_all := lw_g (lw_at lw_m0 172 rfl) rfl
theorem q183 : (Jvm.Cond.privateMethod ({ cls := "CardFilesModel", name := "keep", desc := "()V" } : Jvm.MethodName)) ∈ lw_tbl := lw_at lw_m0 173 rfl
theorem q184 : (Jvm.Cond.instanceMethod ({ cls := "CardFilesModel", name := "keep", desc := "()V" } : Jvm.MethodName)) ∈ lw_all := lw_g (lw_at lw_m0 174 rfl) rfl
theorem q185 : (Jvm.Cond.code ({ cls := "CardFilesModel", name := "keep", desc := "()V" } : Jvm.MethodName) prog_3_method_2_code (2 : Nat) (Option.none : Option Jvm.ClassFile.FieldType)) ∈ lw_all := lw_g (lw_at lw_m0 175 rfl) rfl
theorem q187 : (Jvm.Cond.instanceMethod ({ cls := "CardFilesModel", name := "update", desc := "(III)I" } : Jvm.MethodName)) ∈ lw_all := lw_g (lw_at lw_m0 177 rfl) rfl
theorem q188 : (Jvm.Cond.selects "CardFilesModel" ({ cls := "CardFilesModel", name := "update", desc := "(III)I" } : Jvm.MethodName) ({ cls := "CardFilesModel", name := "update", desc := "(III)I" } : Jvm.MethodName)) ∈ lw_all := lw_g (lw_at lw_m0 178 rfl) rfl
theorem q189 : (Jvm.Cond.code ({ cls := "CardFilesModel", name := "update", desc := "(III)I" } : Jvm.MethodName) prog_3_method_5_code (5 : Nat) (Option.some Jvm.ClassFile.FieldType.int)) ∈ lw_all := lw_g (lw_at lw_m0 179 rfl) rfl
theorem q190 : (Jvm.Cond.methodLink "CardFilesModel" (55 : Nat) ({ cls := "CardFilesModel", name := "refuse", desc := "(II)I" } : Jvm.MethodName)) ∈ lw_all := lw_g (lw_at lw_m0 180 rfl) rfl
theorem q191 : (Jvm.Cond.privateMethod ({ cls := "CardFilesModel", name := "refuse", desc := "(II)I" } : Jvm.MethodName)) ∈ lw_tbl := lw_at lw_m0 181 rfl
theorem q192 : (Jvm.Cond.instanceMethod ({ cls := "CardFilesModel", name := "refuse", desc := "(II)I" } : Jvm.MethodName)) ∈ lw_all := lw_g (lw_at lw_m0 182 rfl) rfl
theorem q193 : (Jvm.Cond.code ({ cls := "CardFilesModel", name := "refuse", desc := "(II)I" } : Jvm.MethodName) prog_3_method_4_code (3 : Nat) (Option.some Jvm.ClassFile.FieldType.int)) ∈ lw_all := lw_g (lw_at lw_m0 183 rfl) rfl
theorem q195 : (Jvm.Cond.instanceMethod ({ cls := "CardFilesModel", name := "read", desc := "(II)I" } : Jvm.MethodName)) ∈ lw_all := lw_g (lw_at lw_m0 185 rfl) rfl
theorem q196 : (Jvm.Cond.selects "CardFilesModel" ({ cls := "CardFilesModel", name := "read", desc := "(II)I" } : Jvm.MethodName) ({ cls := "CardFilesModel", name := "read", desc := "(II)I" } : Jvm.MethodName)) ∈ lw_all := lw_g (lw_at lw_m0 186 rfl) rfl
theorem q197 : (Jvm.Cond.code ({ cls := "CardFilesModel", name := "read", desc := "(II)I" } : Jvm.MethodName) prog_3_method_6_code (4 : Nat) (Option.some Jvm.ClassFile.FieldType.int)) ∈ lw_all := lw_g (lw_at lw_m0 187 rfl) rfl
theorem q199 : (Jvm.Cond.instanceMethod ({ cls := "CardFilesModel", name := "begin", desc := "()I" } : Jvm.MethodName)) ∈ lw_all := lw_g (lw_at lw_m0 189 rfl) rfl
theorem q200 : (Jvm.Cond.selects "CardFilesModel" ({ cls := "CardFilesModel", name := "begin", desc := "()I" } : Jvm.MethodName) ({ cls := "CardFilesModel", name := "begin", desc := "()I" } : Jvm.MethodName)) ∈ lw_all := lw_g (lw_at lw_m0 190 rfl) rfl
theorem q201 : (Jvm.Cond.code ({ cls := "CardFilesModel", name := "begin", desc := "()I" } : Jvm.MethodName) prog_3_method_7_code (2 : Nat) (Option.some Jvm.ClassFile.FieldType.int)) ∈ lw_all := lw_g (lw_at lw_m0 191 rfl) rfl
theorem q203 : (Jvm.Cond.instanceMethod ({ cls := "CardFilesModel", name := "commit", desc := "()I" } : Jvm.MethodName)) ∈ lw_all := lw_g (lw_at lw_m0 193 rfl) rfl
theorem q204 : (Jvm.Cond.selects "CardFilesModel" ({ cls := "CardFilesModel", name := "commit", desc := "()I" } : Jvm.MethodName) ({ cls := "CardFilesModel", name := "commit", desc := "()I" } : Jvm.MethodName)) ∈ lw_all := lw_g (lw_at lw_m0 194 rfl) rfl
theorem q205 : (Jvm.Cond.code ({ cls := "CardFilesModel", name := "commit", desc := "()I" } : Jvm.MethodName) prog_3_method_8_code (2 : Nat) (Option.some Jvm.ClassFile.FieldType.int)) ∈ lw_all := lw_g (lw_at lw_m0 195 rfl) rfl
theorem q207 : (Jvm.Cond.instanceMethod ({ cls := "CardFilesModel", name := "abort", desc := "()I" } : Jvm.MethodName)) ∈ lw_all := lw_g (lw_at lw_m0 197 rfl) rfl
theorem q208 : (Jvm.Cond.selects "CardFilesModel" ({ cls := "CardFilesModel", name := "abort", desc := "()I" } : Jvm.MethodName) ({ cls := "CardFilesModel", name := "abort", desc := "()I" } : Jvm.MethodName)) ∈ lw_all := lw_g (lw_at lw_m0 198 rfl) rfl
theorem q209 : (Jvm.Cond.code ({ cls := "CardFilesModel", name := "abort", desc := "()I" } : Jvm.MethodName) prog_3_method_9_code (1 : Nat) (Option.some Jvm.ClassFile.FieldType.int)) ∈ lw_all := lw_g (lw_at lw_m0 199 rfl) rfl
theorem q211 : (Jvm.Cond.instanceMethod ({ cls := "CardFilesModel", name := "verify", desc := "(I)I" } : Jvm.MethodName)) ∈ lw_all := lw_g (lw_at lw_m0 201 rfl) rfl
theorem q212 : (Jvm.Cond.selects "CardFilesModel" ({ cls := "CardFilesModel", name := "verify", desc := "(I)I" } : Jvm.MethodName) ({ cls := "CardFilesModel", name := "verify", desc := "(I)I" } : Jvm.MethodName)) ∈ lw_all := lw_g (lw_at lw_m0 202 rfl) rfl
theorem q213 : (Jvm.Cond.code ({ cls := "CardFilesModel", name := "verify", desc := "(I)I" } : Jvm.MethodName) prog_3_method_10_code (2 : Nat) (Option.some Jvm.ClassFile.FieldType.int)) ∈ lw_all := lw_g (lw_at lw_m0 203 rfl) rfl
theorem q215 : (Jvm.Cond.instanceMethod ({ cls := "CardFilesModel", name := "change", desc := "(I)I" } : Jvm.MethodName)) ∈ lw_all := lw_g (lw_at lw_m0 205 rfl) rfl
theorem q216 : (Jvm.Cond.selects "CardFilesModel" ({ cls := "CardFilesModel", name := "change", desc := "(I)I" } : Jvm.MethodName) ({ cls := "CardFilesModel", name := "change", desc := "(I)I" } : Jvm.MethodName)) ∈ lw_all := lw_g (lw_at lw_m0 206 rfl) rfl
theorem q217 : (Jvm.Cond.code ({ cls := "CardFilesModel", name := "change", desc := "(I)I" } : Jvm.MethodName) prog_3_method_11_code (2 : Nat) (Option.some Jvm.ClassFile.FieldType.int)) ∈ lw_all := lw_g (lw_at lw_m0 207 rfl) rfl
theorem q219 : (Jvm.Cond.instanceMethod ({ cls := "CardFilesModel", name := "power", desc := "()V" } : Jvm.MethodName)) ∈ lw_all := lw_g (lw_at lw_m0 209 rfl) rfl
theorem q220 : (Jvm.Cond.selects "CardFilesModel" ({ cls := "CardFilesModel", name := "power", desc := "()V" } : Jvm.MethodName) ({ cls := "CardFilesModel", name := "power", desc := "()V" } : Jvm.MethodName)) ∈ lw_all := lw_g (lw_at lw_m0 210 rfl) rfl
theorem q221 : (Jvm.Cond.code ({ cls := "CardFilesModel", name := "power", desc := "()V" } : Jvm.MethodName) prog_3_method_12_code (1 : Nat) (Option.none : Option Jvm.ClassFile.FieldType)) ∈ lw_all := lw_g (lw_at lw_m0 211 rfl) rfl
theorem q223 : (Jvm.Cond.instanceMethod ({ cls := "CardFilesModel", name := "torn", desc := "(ZI)V" } : Jvm.MethodName)) ∈ lw_all := lw_g (lw_at lw_m0 213 rfl) rfl
theorem q224 : (Jvm.Cond.selects "CardFilesModel" ({ cls := "CardFilesModel", name := "torn", desc := "(ZI)V" } : Jvm.MethodName) ({ cls := "CardFilesModel", name := "torn", desc := "(ZI)V" } : Jvm.MethodName)) ∈ lw_all := lw_g (lw_at lw_m0 214 rfl) rfl
theorem q225 : (Jvm.Cond.code ({ cls := "CardFilesModel", name := "torn", desc := "(ZI)V" } : Jvm.MethodName) prog_3_method_13_code (4 : Nat) (Option.none : Option Jvm.ClassFile.FieldType)) ∈ lw_all := lw_g (lw_at lw_m0 215 rfl) rfl
theorem q226 : (Jvm.Cond.methodLink "CardFilesModel" (59 : Nat) ({ cls := "CardFilesModel", name := "power", desc := "()V" } : Jvm.MethodName)) ∈ lw_all := lw_g (lw_at lw_m0 216 rfl) rfl
theorem q228 : (Jvm.Cond.instanceMethod ({ cls := "CardFilesModel", name := "size", desc := "(I)I" } : Jvm.MethodName)) ∈ lw_all := lw_g (lw_at lw_m0 218 rfl) rfl
theorem q229 : (Jvm.Cond.selects "CardFilesModel" ({ cls := "CardFilesModel", name := "size", desc := "(I)I" } : Jvm.MethodName) ({ cls := "CardFilesModel", name := "size", desc := "(I)I" } : Jvm.MethodName)) ∈ lw_all := lw_g (lw_at lw_m0 219 rfl) rfl
theorem q230 : (Jvm.Cond.code ({ cls := "CardFilesModel", name := "size", desc := "(I)I" } : Jvm.MethodName) prog_3_method_14_code (2 : Nat) (Option.some Jvm.ClassFile.FieldType.int)) ∈ lw_all := lw_g (lw_at lw_m0 220 rfl) rfl
theorem q232 : (Jvm.Cond.instanceMethod ({ cls := "CardFilesModel", name := "state", desc := "()I" } : Jvm.MethodName)) ∈ lw_all := lw_g (lw_at lw_m0 222 rfl) rfl
theorem q233 : (Jvm.Cond.selects "CardFilesModel" ({ cls := "CardFilesModel", name := "state", desc := "()I" } : Jvm.MethodName) ({ cls := "CardFilesModel", name := "state", desc := "()I" } : Jvm.MethodName)) ∈ lw_all := lw_g (lw_at lw_m0 223 rfl) rfl
theorem q234 : (Jvm.Cond.code ({ cls := "CardFilesModel", name := "state", desc := "()I" } : Jvm.MethodName) prog_3_method_15_code (1 : Nat) (Option.some Jvm.ClassFile.FieldType.int)) ∈ lw_all := lw_g (lw_at lw_m0 224 rfl) rfl
theorem in_X1 : ∀ w ∈ wsX10, w ∈ lw_all := lw_in wsX10 [151, 153, 155, 157, 159, 161, 163, 165, 167, 169, 171, 173, 175] (by decide +kernel) (by decide +kernel)
end
section
/-! java/lang/Object -/
set_option maxRecDepth 100000
def RJ0 : String := "java/lang/Object"
abbrev cJ0_init : ByteArray := object_method_1_code
def yJ0_init : MethodName := ⟨RJ0, "<init>", "()V"⟩
theorem dJ0_init_0 : decode cJ0_init 0 = .ok (.return_, 1) := by decide +kernel
theorem q19 : (Jvm.Cond.instanceMethod ({ cls := "java/lang/Object", name := "<init>", desc := "()V" } : Jvm.MethodName)) ∈ lw_all := lw_g (lw_at lw_m0 9 rfl) rfl
theorem q20 : (Jvm.Cond.code ({ cls := "java/lang/Object", name := "<init>", desc := "()V" } : Jvm.MethodName) object_method_1_code (1 : Nat) (Option.none : Option Jvm.ClassFile.FieldType)) ∈ lw_all := lw_g (lw_at lw_m0 10 rfl) rfl
theorem q10 : (Jvm.Cond.initialized "CardFilesLaw") ∈ lw_all := lw_g (lw_at lw_m0 0 rfl) rfl
set_option maxRecDepth 100000
theorem q13 : (Jvm.Cond.classLink "CardFilesLaw" (7 : Nat) "CardFiles") ∈ lw_all := lw_g (lw_at lw_m0 3 rfl) rfl
theorem q15 : (Jvm.Cond.methodLink "CardFilesLaw" (9 : Nat) ({ cls := "CardFiles", name := "<init>", desc := "()V" } : Jvm.MethodName)) ∈ lw_all := lw_g (lw_at lw_m0 5 rfl) rfl
theorem q51 : (Jvm.Cond.methodLink "CardFilesLaw" (13 : Nat) ({ cls := "CardFiles", name := "create", desc := "(IIZ)I" } : Jvm.MethodName)) ∈ lw_all := lw_g (lw_at lw_m0 41 rfl) rfl
theorem q83 : (Jvm.Cond.methodLink "CardFilesLaw" (18 : Nat) ({ cls := "CardFiles", name := "update", desc := "(III)I" } : Jvm.MethodName)) ∈ lw_all := lw_g (lw_at lw_m0 73 rfl) rfl
theorem q91 : (Jvm.Cond.methodLink "CardFilesLaw" (23 : Nat) ({ cls := "CardFiles", name := "read", desc := "(II)I" } : Jvm.MethodName)) ∈ lw_all := lw_g (lw_at lw_m0 81 rfl) rfl
theorem q95 : (Jvm.Cond.methodLink "CardFilesLaw" (28 : Nat) ({ cls := "CardFiles", name := "begin", desc := "()I" } : Jvm.MethodName)) ∈ lw_all := lw_g (lw_at lw_m0 85 rfl) rfl
theorem q99 : (Jvm.Cond.methodLink "CardFilesLaw" (33 : Nat) ({ cls := "CardFiles", name := "commit", desc := "()I" } : Jvm.MethodName)) ∈ lw_all := lw_g (lw_at lw_m0 89 rfl) rfl
theorem q103 : (Jvm.Cond.methodLink "CardFilesLaw" (37 : Nat) ({ cls := "CardFiles", name := "abort", desc := "()I" } : Jvm.MethodName)) ∈ lw_all := lw_g (lw_at lw_m0 93 rfl) rfl
theorem q107 : (Jvm.Cond.methodLink "CardFilesLaw" (41 : Nat) ({ cls := "CardFiles", name := "verify", desc := "(I)I" } : Jvm.MethodName)) ∈ lw_all := lw_g (lw_at lw_m0 97 rfl) rfl
theorem q111 : (Jvm.Cond.methodLink "CardFilesLaw" (46 : Nat) ({ cls := "CardFiles", name := "change", desc := "(I)I" } : Jvm.MethodName)) ∈ lw_all := lw_g (lw_at lw_m0 101 rfl) rfl
theorem q115 : (Jvm.Cond.methodLink "CardFilesLaw" (50 : Nat) ({ cls := "CardFiles", name := "power", desc := "()V" } : Jvm.MethodName)) ∈ lw_all := lw_g (lw_at lw_m0 105 rfl) rfl
theorem q123 : (Jvm.Cond.methodLink "CardFilesLaw" (54 : Nat) ({ cls := "CardFiles", name := "torn", desc := "(ZI)V" } : Jvm.MethodName)) ∈ lw_all := lw_g (lw_at lw_m0 113 rfl) rfl
theorem q127 : (Jvm.Cond.methodLink "CardFilesLaw" (59 : Nat) ({ cls := "CardFiles", name := "size", desc := "(I)I" } : Jvm.MethodName)) ∈ lw_all := lw_g (lw_at lw_m0 117 rfl) rfl
theorem q128 : (Jvm.Cond.methodLink "CardFilesLaw" (63 : Nat) ({ cls := "CardFiles", name := "state", desc := "()I" } : Jvm.MethodName)) ∈ lw_all := lw_g (lw_at lw_m0 118 rfl) rfl
theorem q132 : (Jvm.Cond.classLink "CardFilesLaw" (10 : Nat) "CardFilesModel") ∈ lw_all := lw_g (lw_at lw_m0 122 rfl) rfl
theorem q134 : (Jvm.Cond.methodLink "CardFilesLaw" (12 : Nat) ({ cls := "CardFilesModel", name := "<init>", desc := "()V" } : Jvm.MethodName)) ∈ lw_all := lw_g (lw_at lw_m0 124 rfl) rfl
theorem q178 : (Jvm.Cond.methodLink "CardFilesLaw" (17 : Nat) ({ cls := "CardFilesModel", name := "create", desc := "(IIZ)I" } : Jvm.MethodName)) ∈ lw_all := lw_g (lw_at lw_m0 168 rfl) rfl
theorem q186 : (Jvm.Cond.methodLink "CardFilesLaw" (22 : Nat) ({ cls := "CardFilesModel", name := "update", desc := "(III)I" } : Jvm.MethodName)) ∈ lw_all := lw_g (lw_at lw_m0 176 rfl) rfl
theorem q194 : (Jvm.Cond.methodLink "CardFilesLaw" (27 : Nat) ({ cls := "CardFilesModel", name := "read", desc := "(II)I" } : Jvm.MethodName)) ∈ lw_all := lw_g (lw_at lw_m0 184 rfl) rfl
theorem q198 : (Jvm.Cond.methodLink "CardFilesLaw" (32 : Nat) ({ cls := "CardFilesModel", name := "begin", desc := "()I" } : Jvm.MethodName)) ∈ lw_all := lw_g (lw_at lw_m0 188 rfl) rfl
theorem q202 : (Jvm.Cond.methodLink "CardFilesLaw" (36 : Nat) ({ cls := "CardFilesModel", name := "commit", desc := "()I" } : Jvm.MethodName)) ∈ lw_all := lw_g (lw_at lw_m0 192 rfl) rfl
theorem q206 : (Jvm.Cond.methodLink "CardFilesLaw" (40 : Nat) ({ cls := "CardFilesModel", name := "abort", desc := "()I" } : Jvm.MethodName)) ∈ lw_all := lw_g (lw_at lw_m0 196 rfl) rfl
theorem q210 : (Jvm.Cond.methodLink "CardFilesLaw" (45 : Nat) ({ cls := "CardFilesModel", name := "verify", desc := "(I)I" } : Jvm.MethodName)) ∈ lw_all := lw_g (lw_at lw_m0 200 rfl) rfl
theorem q214 : (Jvm.Cond.methodLink "CardFilesLaw" (49 : Nat) ({ cls := "CardFilesModel", name := "change", desc := "(I)I" } : Jvm.MethodName)) ∈ lw_all := lw_g (lw_at lw_m0 204 rfl) rfl
theorem q218 : (Jvm.Cond.methodLink "CardFilesLaw" (53 : Nat) ({ cls := "CardFilesModel", name := "power", desc := "()V" } : Jvm.MethodName)) ∈ lw_all := lw_g (lw_at lw_m0 208 rfl) rfl
theorem q222 : (Jvm.Cond.methodLink "CardFilesLaw" (58 : Nat) ({ cls := "CardFilesModel", name := "torn", desc := "(ZI)V" } : Jvm.MethodName)) ∈ lw_all := lw_g (lw_at lw_m0 212 rfl) rfl
theorem q227 : (Jvm.Cond.methodLink "CardFilesLaw" (62 : Nat) ({ cls := "CardFilesModel", name := "size", desc := "(I)I" } : Jvm.MethodName)) ∈ lw_all := lw_g (lw_at lw_m0 217 rfl) rfl
theorem q231 : (Jvm.Cond.methodLink "CardFilesLaw" (66 : Nat) ({ cls := "CardFilesModel", name := "state", desc := "()I" } : Jvm.MethodName)) ∈ lw_all := lw_g (lw_at lw_m0 221 rfl) rfl
theorem q49 : (Jvm.Cond.arrayClass Jvm.ClassFile.FieldType.int) ∈ lw_all := lw_g (lw_at lw_m0 39 rfl) rfl
set_option maxRecDepth 100000
theorem q50 : (Jvm.Cond.arrayClass Jvm.ClassFile.FieldType.boolean) ∈ lw_all := lw_g (lw_at lw_m0 40 rfl) rfl
/-! the law's own entry -/
set_option maxRecDepth 100000
abbrev cL_law : ByteArray := code
theorem dL_law_0 : decode cL_law 0 = .ok (.new 7, 3) := by decide +kernel
theorem dL_law_3 : decode cL_law 3 = .ok (.dup, 1) := by decide +kernel
theorem dL_law_4 : decode cL_law 4 = .ok (.invokespecial 9, 3) := by decide +kernel
theorem dL_law_7 : decode cL_law 7 = .ok (.astore_n 1, 1) := by decide +kernel
theorem dL_law_8 : decode cL_law 8 = .ok (.new 10, 3) := by decide +kernel
theorem dL_law_11 : decode cL_law 11 = .ok (.dup, 1) := by decide +kernel
theorem dL_law_12 : decode cL_law 12 = .ok (.invokespecial 12, 3) := by decide +kernel
theorem dL_law_15 : decode cL_law 15 = .ok (.astore_n 2, 1) := by decide +kernel
theorem dL_law_16 : decode cL_law 16 = .ok (.iconst 0, 1) := by decide +kernel
theorem dL_law_17 : decode cL_law 17 = .ok (.istore_n 3, 1) := by decide +kernel
theorem dL_law_18 : decode cL_law 18 = .ok (.iload_n 3, 1) := by decide +kernel
theorem dL_law_19 : decode cL_law 19 = .ok (.aload_n 0, 1) := by decide +kernel
theorem dL_law_20 : decode cL_law 20 = .ok (.arraylength, 1) := by decide +kernel
theorem dL_law_21 : decode cL_law 21 = .ok (.iconst 4, 1) := by decide +kernel
theorem dL_law_22 : decode cL_law 22 = .ok (.isub, 1) := by decide +kernel
theorem dL_law_23 : decode cL_law 23 = .ok (.if_icmp .gt 393, 3) := by decide +kernel
theorem dL_law_26 : decode cL_law 26 = .ok (.aload_n 0, 1) := by decide +kernel
theorem dL_law_27 : decode cL_law 27 = .ok (.iload_n 3, 1) := by decide +kernel
theorem dL_law_28 : decode cL_law 28 = .ok (.iaload, 1) := by decide +kernel
theorem dL_law_29 : decode cL_law 29 = .ok (.bipush 15, 2) := by decide +kernel
theorem dL_law_31 : decode cL_law 31 = .ok (.iand, 1) := by decide +kernel
theorem dL_law_32 : decode cL_law 32 = .ok (.tableswitch 378 0 11 #[64, 123, 166, 199, 212, 225, 238, 261, 284, 295, 342, 365], 64) := by decide +kernel
theorem dL_law_96 : decode cL_law 96 = .ok (.aload_n 1, 1) := by decide +kernel
theorem dL_law_97 : decode cL_law 97 = .ok (.aload_n 0, 1) := by decide +kernel
theorem dL_law_98 : decode cL_law 98 = .ok (.iload_n 3, 1) := by decide +kernel
theorem dL_law_99 : decode cL_law 99 = .ok (.iconst 1, 1) := by decide +kernel
theorem dL_law_100 : decode cL_law 100 = .ok (.iadd, 1) := by decide +kernel
theorem dL_law_101 : decode cL_law 101 = .ok (.iaload, 1) := by decide +kernel
theorem dL_law_102 : decode cL_law 102 = .ok (.aload_n 0, 1) := by decide +kernel
theorem dL_law_103 : decode cL_law 103 = .ok (.iload_n 3, 1) := by decide +kernel
theorem dL_law_104 : decode cL_law 104 = .ok (.iconst 2, 1) := by decide +kernel
theorem dL_law_105 : decode cL_law 105 = .ok (.iadd, 1) := by decide +kernel
theorem dL_law_106 : decode cL_law 106 = .ok (.iaload, 1) := by decide +kernel
theorem dL_law_107 : decode cL_law 107 = .ok (.aload_n 0, 1) := by decide +kernel
theorem dL_law_108 : decode cL_law 108 = .ok (.iload_n 3, 1) := by decide +kernel
theorem dL_law_109 : decode cL_law 109 = .ok (.iconst 3, 1) := by decide +kernel
theorem dL_law_110 : decode cL_law 110 = .ok (.iadd, 1) := by decide +kernel
theorem dL_law_111 : decode cL_law 111 = .ok (.iaload, 1) := by decide +kernel
theorem dL_law_112 : decode cL_law 112 = .ok (.ifCond .eq 7, 3) := by decide +kernel
theorem dL_law_115 : decode cL_law 115 = .ok (.iconst 1, 1) := by decide +kernel
theorem dL_law_116 : decode cL_law 116 = .ok (.goto 4, 3) := by decide +kernel
theorem dL_law_119 : decode cL_law 119 = .ok (.iconst 0, 1) := by decide +kernel
theorem dL_law_120 : decode cL_law 120 = .ok (.invokevirtual 13, 3) := by decide +kernel
theorem dL_law_123 : decode cL_law 123 = .ok (.aload_n 2, 1) := by decide +kernel
theorem dL_law_124 : decode cL_law 124 = .ok (.aload_n 0, 1) := by decide +kernel
theorem dL_law_125 : decode cL_law 125 = .ok (.iload_n 3, 1) := by decide +kernel
theorem dL_law_126 : decode cL_law 126 = .ok (.iconst 1, 1) := by decide +kernel
theorem dL_law_127 : decode cL_law 127 = .ok (.iadd, 1) := by decide +kernel
theorem dL_law_128 : decode cL_law 128 = .ok (.iaload, 1) := by decide +kernel
theorem dL_law_129 : decode cL_law 129 = .ok (.aload_n 0, 1) := by decide +kernel
theorem dL_law_130 : decode cL_law 130 = .ok (.iload_n 3, 1) := by decide +kernel
theorem dL_law_131 : decode cL_law 131 = .ok (.iconst 2, 1) := by decide +kernel
theorem dL_law_132 : decode cL_law 132 = .ok (.iadd, 1) := by decide +kernel
theorem dL_law_133 : decode cL_law 133 = .ok (.iaload, 1) := by decide +kernel
theorem dL_law_134 : decode cL_law 134 = .ok (.aload_n 0, 1) := by decide +kernel
theorem dL_law_135 : decode cL_law 135 = .ok (.iload_n 3, 1) := by decide +kernel
theorem dL_law_136 : decode cL_law 136 = .ok (.iconst 3, 1) := by decide +kernel
theorem dL_law_137 : decode cL_law 137 = .ok (.iadd, 1) := by decide +kernel
theorem dL_law_138 : decode cL_law 138 = .ok (.iaload, 1) := by decide +kernel
theorem dL_law_139 : decode cL_law 139 = .ok (.ifCond .eq 7, 3) := by decide +kernel
theorem dL_law_142 : decode cL_law 142 = .ok (.iconst 1, 1) := by decide +kernel
theorem dL_law_143 : decode cL_law 143 = .ok (.goto 4, 3) := by decide +kernel
theorem dL_law_146 : decode cL_law 146 = .ok (.iconst 0, 1) := by decide +kernel
theorem dL_law_147 : decode cL_law 147 = .ok (.invokevirtual 17, 3) := by decide +kernel
theorem dL_law_150 : decode cL_law 150 = .ok (.if_icmp .eq 260, 3) := by decide +kernel
theorem dL_law_153 : decode cL_law 153 = .ok (.iconst 0, 1) := by decide +kernel
theorem dL_law_154 : decode cL_law 154 = .ok (.ireturn, 1) := by decide +kernel
theorem dL_law_155 : decode cL_law 155 = .ok (.aload_n 1, 1) := by decide +kernel
theorem dL_law_156 : decode cL_law 156 = .ok (.aload_n 0, 1) := by decide +kernel
theorem dL_law_157 : decode cL_law 157 = .ok (.iload_n 3, 1) := by decide +kernel
theorem dL_law_158 : decode cL_law 158 = .ok (.iconst 1, 1) := by decide +kernel
theorem dL_law_159 : decode cL_law 159 = .ok (.iadd, 1) := by decide +kernel
theorem dL_law_160 : decode cL_law 160 = .ok (.iaload, 1) := by decide +kernel
theorem dL_law_161 : decode cL_law 161 = .ok (.aload_n 0, 1) := by decide +kernel
theorem dL_law_162 : decode cL_law 162 = .ok (.iload_n 3, 1) := by decide +kernel
theorem dL_law_163 : decode cL_law 163 = .ok (.iconst 2, 1) := by decide +kernel
theorem dL_law_164 : decode cL_law 164 = .ok (.iadd, 1) := by decide +kernel
theorem dL_law_165 : decode cL_law 165 = .ok (.iaload, 1) := by decide +kernel
theorem dL_law_166 : decode cL_law 166 = .ok (.aload_n 0, 1) := by decide +kernel
theorem dL_law_167 : decode cL_law 167 = .ok (.iload_n 3, 1) := by decide +kernel
theorem dL_law_168 : decode cL_law 168 = .ok (.iconst 3, 1) := by decide +kernel
theorem dL_law_169 : decode cL_law 169 = .ok (.iadd, 1) := by decide +kernel
theorem dL_law_170 : decode cL_law 170 = .ok (.iaload, 1) := by decide +kernel
theorem dL_law_171 : decode cL_law 171 = .ok (.invokevirtual 18, 3) := by decide +kernel
theorem dL_law_174 : decode cL_law 174 = .ok (.aload_n 2, 1) := by decide +kernel
theorem dL_law_175 : decode cL_law 175 = .ok (.aload_n 0, 1) := by decide +kernel
theorem dL_law_176 : decode cL_law 176 = .ok (.iload_n 3, 1) := by decide +kernel
theorem dL_law_177 : decode cL_law 177 = .ok (.iconst 1, 1) := by decide +kernel
theorem dL_law_178 : decode cL_law 178 = .ok (.iadd, 1) := by decide +kernel
theorem dL_law_179 : decode cL_law 179 = .ok (.iaload, 1) := by decide +kernel
theorem dL_law_180 : decode cL_law 180 = .ok (.aload_n 0, 1) := by decide +kernel
theorem dL_law_181 : decode cL_law 181 = .ok (.iload_n 3, 1) := by decide +kernel
theorem dL_law_182 : decode cL_law 182 = .ok (.iconst 2, 1) := by decide +kernel
theorem dL_law_183 : decode cL_law 183 = .ok (.iadd, 1) := by decide +kernel
theorem dL_law_184 : decode cL_law 184 = .ok (.iaload, 1) := by decide +kernel
theorem dL_law_185 : decode cL_law 185 = .ok (.aload_n 0, 1) := by decide +kernel
theorem dL_law_186 : decode cL_law 186 = .ok (.iload_n 3, 1) := by decide +kernel
theorem dL_law_187 : decode cL_law 187 = .ok (.iconst 3, 1) := by decide +kernel
theorem dL_law_188 : decode cL_law 188 = .ok (.iadd, 1) := by decide +kernel
theorem dL_law_189 : decode cL_law 189 = .ok (.iaload, 1) := by decide +kernel
theorem dL_law_190 : decode cL_law 190 = .ok (.invokevirtual 22, 3) := by decide +kernel
theorem dL_law_193 : decode cL_law 193 = .ok (.if_icmp .eq 217, 3) := by decide +kernel
theorem dL_law_196 : decode cL_law 196 = .ok (.iconst 0, 1) := by decide +kernel
theorem dL_law_197 : decode cL_law 197 = .ok (.ireturn, 1) := by decide +kernel
theorem dL_law_198 : decode cL_law 198 = .ok (.aload_n 1, 1) := by decide +kernel
theorem dL_law_199 : decode cL_law 199 = .ok (.aload_n 0, 1) := by decide +kernel
theorem dL_law_200 : decode cL_law 200 = .ok (.iload_n 3, 1) := by decide +kernel
theorem dL_law_201 : decode cL_law 201 = .ok (.iconst 1, 1) := by decide +kernel
theorem dL_law_202 : decode cL_law 202 = .ok (.iadd, 1) := by decide +kernel
theorem dL_law_203 : decode cL_law 203 = .ok (.iaload, 1) := by decide +kernel
theorem dL_law_204 : decode cL_law 204 = .ok (.aload_n 0, 1) := by decide +kernel
theorem dL_law_205 : decode cL_law 205 = .ok (.iload_n 3, 1) := by decide +kernel
theorem dL_law_206 : decode cL_law 206 = .ok (.iconst 2, 1) := by decide +kernel
theorem dL_law_207 : decode cL_law 207 = .ok (.iadd, 1) := by decide +kernel
theorem dL_law_208 : decode cL_law 208 = .ok (.iaload, 1) := by decide +kernel
theorem dL_law_209 : decode cL_law 209 = .ok (.invokevirtual 23, 3) := by decide +kernel
theorem dL_law_212 : decode cL_law 212 = .ok (.aload_n 2, 1) := by decide +kernel
theorem dL_law_213 : decode cL_law 213 = .ok (.aload_n 0, 1) := by decide +kernel
theorem dL_law_214 : decode cL_law 214 = .ok (.iload_n 3, 1) := by decide +kernel
theorem dL_law_215 : decode cL_law 215 = .ok (.iconst 1, 1) := by decide +kernel
theorem dL_law_216 : decode cL_law 216 = .ok (.iadd, 1) := by decide +kernel
theorem dL_law_217 : decode cL_law 217 = .ok (.iaload, 1) := by decide +kernel
theorem dL_law_218 : decode cL_law 218 = .ok (.aload_n 0, 1) := by decide +kernel
theorem dL_law_219 : decode cL_law 219 = .ok (.iload_n 3, 1) := by decide +kernel
theorem dL_law_220 : decode cL_law 220 = .ok (.iconst 2, 1) := by decide +kernel
theorem dL_law_221 : decode cL_law 221 = .ok (.iadd, 1) := by decide +kernel
theorem dL_law_222 : decode cL_law 222 = .ok (.iaload, 1) := by decide +kernel
theorem dL_law_223 : decode cL_law 223 = .ok (.invokevirtual 27, 3) := by decide +kernel
theorem dL_law_226 : decode cL_law 226 = .ok (.if_icmp .eq 184, 3) := by decide +kernel
theorem dL_law_229 : decode cL_law 229 = .ok (.iconst 0, 1) := by decide +kernel
theorem dL_law_230 : decode cL_law 230 = .ok (.ireturn, 1) := by decide +kernel
theorem dL_law_231 : decode cL_law 231 = .ok (.aload_n 1, 1) := by decide +kernel
theorem dL_law_232 : decode cL_law 232 = .ok (.invokevirtual 28, 3) := by decide +kernel
theorem dL_law_235 : decode cL_law 235 = .ok (.aload_n 2, 1) := by decide +kernel
theorem dL_law_236 : decode cL_law 236 = .ok (.invokevirtual 32, 3) := by decide +kernel
theorem dL_law_239 : decode cL_law 239 = .ok (.if_icmp .eq 171, 3) := by decide +kernel
theorem dL_law_242 : decode cL_law 242 = .ok (.iconst 0, 1) := by decide +kernel
theorem dL_law_243 : decode cL_law 243 = .ok (.ireturn, 1) := by decide +kernel
theorem dL_law_244 : decode cL_law 244 = .ok (.aload_n 1, 1) := by decide +kernel
theorem dL_law_245 : decode cL_law 245 = .ok (.invokevirtual 33, 3) := by decide +kernel
theorem dL_law_248 : decode cL_law 248 = .ok (.aload_n 2, 1) := by decide +kernel
theorem dL_law_249 : decode cL_law 249 = .ok (.invokevirtual 36, 3) := by decide +kernel
theorem dL_law_252 : decode cL_law 252 = .ok (.if_icmp .eq 158, 3) := by decide +kernel
theorem dL_law_255 : decode cL_law 255 = .ok (.iconst 0, 1) := by decide +kernel
theorem dL_law_256 : decode cL_law 256 = .ok (.ireturn, 1) := by decide +kernel
theorem dL_law_257 : decode cL_law 257 = .ok (.aload_n 1, 1) := by decide +kernel
theorem dL_law_258 : decode cL_law 258 = .ok (.invokevirtual 37, 3) := by decide +kernel
theorem dL_law_261 : decode cL_law 261 = .ok (.aload_n 2, 1) := by decide +kernel
theorem dL_law_262 : decode cL_law 262 = .ok (.invokevirtual 40, 3) := by decide +kernel
theorem dL_law_265 : decode cL_law 265 = .ok (.if_icmp .eq 145, 3) := by decide +kernel
theorem dL_law_268 : decode cL_law 268 = .ok (.iconst 0, 1) := by decide +kernel
theorem dL_law_269 : decode cL_law 269 = .ok (.ireturn, 1) := by decide +kernel
theorem dL_law_270 : decode cL_law 270 = .ok (.aload_n 1, 1) := by decide +kernel
theorem dL_law_271 : decode cL_law 271 = .ok (.aload_n 0, 1) := by decide +kernel
theorem dL_law_272 : decode cL_law 272 = .ok (.iload_n 3, 1) := by decide +kernel
theorem dL_law_273 : decode cL_law 273 = .ok (.iconst 1, 1) := by decide +kernel
theorem dL_law_274 : decode cL_law 274 = .ok (.iadd, 1) := by decide +kernel
theorem dL_law_275 : decode cL_law 275 = .ok (.iaload, 1) := by decide +kernel
theorem dL_law_276 : decode cL_law 276 = .ok (.invokevirtual 41, 3) := by decide +kernel
theorem dL_law_279 : decode cL_law 279 = .ok (.aload_n 2, 1) := by decide +kernel
theorem dL_law_280 : decode cL_law 280 = .ok (.aload_n 0, 1) := by decide +kernel
theorem dL_law_281 : decode cL_law 281 = .ok (.iload_n 3, 1) := by decide +kernel
theorem dL_law_282 : decode cL_law 282 = .ok (.iconst 1, 1) := by decide +kernel
theorem dL_law_283 : decode cL_law 283 = .ok (.iadd, 1) := by decide +kernel
theorem dL_law_284 : decode cL_law 284 = .ok (.iaload, 1) := by decide +kernel
theorem dL_law_285 : decode cL_law 285 = .ok (.invokevirtual 45, 3) := by decide +kernel
theorem dL_law_288 : decode cL_law 288 = .ok (.if_icmp .eq 122, 3) := by decide +kernel
theorem dL_law_291 : decode cL_law 291 = .ok (.iconst 0, 1) := by decide +kernel
theorem dL_law_292 : decode cL_law 292 = .ok (.ireturn, 1) := by decide +kernel
theorem dL_law_293 : decode cL_law 293 = .ok (.aload_n 1, 1) := by decide +kernel
theorem dL_law_294 : decode cL_law 294 = .ok (.aload_n 0, 1) := by decide +kernel
theorem dL_law_295 : decode cL_law 295 = .ok (.iload_n 3, 1) := by decide +kernel
theorem dL_law_296 : decode cL_law 296 = .ok (.iconst 1, 1) := by decide +kernel
theorem dL_law_297 : decode cL_law 297 = .ok (.iadd, 1) := by decide +kernel
theorem dL_law_298 : decode cL_law 298 = .ok (.iaload, 1) := by decide +kernel
theorem dL_law_299 : decode cL_law 299 = .ok (.invokevirtual 46, 3) := by decide +kernel
theorem dL_law_302 : decode cL_law 302 = .ok (.aload_n 2, 1) := by decide +kernel
theorem dL_law_303 : decode cL_law 303 = .ok (.aload_n 0, 1) := by decide +kernel
theorem dL_law_304 : decode cL_law 304 = .ok (.iload_n 3, 1) := by decide +kernel
theorem dL_law_305 : decode cL_law 305 = .ok (.iconst 1, 1) := by decide +kernel
theorem dL_law_306 : decode cL_law 306 = .ok (.iadd, 1) := by decide +kernel
theorem dL_law_307 : decode cL_law 307 = .ok (.iaload, 1) := by decide +kernel
theorem dL_law_308 : decode cL_law 308 = .ok (.invokevirtual 49, 3) := by decide +kernel
theorem dL_law_311 : decode cL_law 311 = .ok (.if_icmp .eq 99, 3) := by decide +kernel
theorem dL_law_314 : decode cL_law 314 = .ok (.iconst 0, 1) := by decide +kernel
theorem dL_law_315 : decode cL_law 315 = .ok (.ireturn, 1) := by decide +kernel
theorem dL_law_316 : decode cL_law 316 = .ok (.aload_n 1, 1) := by decide +kernel
theorem dL_law_317 : decode cL_law 317 = .ok (.invokevirtual 50, 3) := by decide +kernel
theorem dL_law_320 : decode cL_law 320 = .ok (.aload_n 2, 1) := by decide +kernel
theorem dL_law_321 : decode cL_law 321 = .ok (.invokevirtual 53, 3) := by decide +kernel
theorem dL_law_324 : decode cL_law 324 = .ok (.goto 86, 3) := by decide +kernel
theorem dL_law_327 : decode cL_law 327 = .ok (.aload_n 1, 1) := by decide +kernel
theorem dL_law_328 : decode cL_law 328 = .ok (.aload_n 0, 1) := by decide +kernel
theorem dL_law_329 : decode cL_law 329 = .ok (.iload_n 3, 1) := by decide +kernel
theorem dL_law_330 : decode cL_law 330 = .ok (.iconst 1, 1) := by decide +kernel
theorem dL_law_331 : decode cL_law 331 = .ok (.iadd, 1) := by decide +kernel
theorem dL_law_332 : decode cL_law 332 = .ok (.iaload, 1) := by decide +kernel
theorem dL_law_333 : decode cL_law 333 = .ok (.ifCond .eq 7, 3) := by decide +kernel
theorem dL_law_336 : decode cL_law 336 = .ok (.iconst 1, 1) := by decide +kernel
theorem dL_law_337 : decode cL_law 337 = .ok (.goto 4, 3) := by decide +kernel
theorem dL_law_340 : decode cL_law 340 = .ok (.iconst 0, 1) := by decide +kernel
theorem dL_law_341 : decode cL_law 341 = .ok (.aload_n 0, 1) := by decide +kernel
theorem dL_law_342 : decode cL_law 342 = .ok (.iload_n 3, 1) := by decide +kernel
theorem dL_law_343 : decode cL_law 343 = .ok (.iconst 2, 1) := by decide +kernel
theorem dL_law_344 : decode cL_law 344 = .ok (.iadd, 1) := by decide +kernel
theorem dL_law_345 : decode cL_law 345 = .ok (.iaload, 1) := by decide +kernel
theorem dL_law_346 : decode cL_law 346 = .ok (.invokevirtual 54, 3) := by decide +kernel
theorem dL_law_349 : decode cL_law 349 = .ok (.aload_n 2, 1) := by decide +kernel
theorem dL_law_350 : decode cL_law 350 = .ok (.aload_n 0, 1) := by decide +kernel
theorem dL_law_351 : decode cL_law 351 = .ok (.iload_n 3, 1) := by decide +kernel
theorem dL_law_352 : decode cL_law 352 = .ok (.iconst 1, 1) := by decide +kernel
theorem dL_law_353 : decode cL_law 353 = .ok (.iadd, 1) := by decide +kernel
theorem dL_law_354 : decode cL_law 354 = .ok (.iaload, 1) := by decide +kernel
theorem dL_law_355 : decode cL_law 355 = .ok (.ifCond .eq 7, 3) := by decide +kernel
theorem dL_law_358 : decode cL_law 358 = .ok (.iconst 1, 1) := by decide +kernel
theorem dL_law_359 : decode cL_law 359 = .ok (.goto 4, 3) := by decide +kernel
theorem dL_law_362 : decode cL_law 362 = .ok (.iconst 0, 1) := by decide +kernel
theorem dL_law_363 : decode cL_law 363 = .ok (.aload_n 0, 1) := by decide +kernel
theorem dL_law_364 : decode cL_law 364 = .ok (.iload_n 3, 1) := by decide +kernel
theorem dL_law_365 : decode cL_law 365 = .ok (.iconst 2, 1) := by decide +kernel
theorem dL_law_366 : decode cL_law 366 = .ok (.iadd, 1) := by decide +kernel
theorem dL_law_367 : decode cL_law 367 = .ok (.iaload, 1) := by decide +kernel
theorem dL_law_368 : decode cL_law 368 = .ok (.invokevirtual 58, 3) := by decide +kernel
theorem dL_law_371 : decode cL_law 371 = .ok (.goto 39, 3) := by decide +kernel
theorem dL_law_374 : decode cL_law 374 = .ok (.aload_n 1, 1) := by decide +kernel
theorem dL_law_375 : decode cL_law 375 = .ok (.aload_n 0, 1) := by decide +kernel
theorem dL_law_376 : decode cL_law 376 = .ok (.iload_n 3, 1) := by decide +kernel
theorem dL_law_377 : decode cL_law 377 = .ok (.iconst 1, 1) := by decide +kernel
theorem dL_law_378 : decode cL_law 378 = .ok (.iadd, 1) := by decide +kernel
theorem dL_law_379 : decode cL_law 379 = .ok (.iaload, 1) := by decide +kernel
theorem dL_law_380 : decode cL_law 380 = .ok (.invokevirtual 59, 3) := by decide +kernel
theorem dL_law_383 : decode cL_law 383 = .ok (.aload_n 2, 1) := by decide +kernel
theorem dL_law_384 : decode cL_law 384 = .ok (.aload_n 0, 1) := by decide +kernel
theorem dL_law_385 : decode cL_law 385 = .ok (.iload_n 3, 1) := by decide +kernel
theorem dL_law_386 : decode cL_law 386 = .ok (.iconst 1, 1) := by decide +kernel
theorem dL_law_387 : decode cL_law 387 = .ok (.iadd, 1) := by decide +kernel
theorem dL_law_388 : decode cL_law 388 = .ok (.iaload, 1) := by decide +kernel
theorem dL_law_389 : decode cL_law 389 = .ok (.invokevirtual 62, 3) := by decide +kernel
theorem dL_law_392 : decode cL_law 392 = .ok (.if_icmp .eq 18, 3) := by decide +kernel
theorem dL_law_395 : decode cL_law 395 = .ok (.iconst 0, 1) := by decide +kernel
theorem dL_law_396 : decode cL_law 396 = .ok (.ireturn, 1) := by decide +kernel
theorem dL_law_397 : decode cL_law 397 = .ok (.aload_n 1, 1) := by decide +kernel
theorem dL_law_398 : decode cL_law 398 = .ok (.invokevirtual 63, 3) := by decide +kernel
theorem dL_law_401 : decode cL_law 401 = .ok (.aload_n 2, 1) := by decide +kernel
theorem dL_law_402 : decode cL_law 402 = .ok (.invokevirtual 66, 3) := by decide +kernel
theorem dL_law_405 : decode cL_law 405 = .ok (.if_icmp .eq 5, 3) := by decide +kernel
theorem dL_law_408 : decode cL_law 408 = .ok (.iconst 0, 1) := by decide +kernel
theorem dL_law_409 : decode cL_law 409 = .ok (.ireturn, 1) := by decide +kernel
theorem dL_law_410 : decode cL_law 410 = .ok (.iinc 3 4, 3) := by decide +kernel
theorem dL_law_413 : decode cL_law 413 = .ok (.goto (-395), 3) := by decide +kernel
theorem dL_law_416 : decode cL_law 416 = .ok (.iconst 1, 1) := by decide +kernel
theorem dL_law_417 : decode cL_law 417 = .ok (.ireturn, 1) := by decide +kernel
end
section
/-! PURE PICTURES of the two states, and what each method makes of them -/
def cf_b (b : Bool) : Int32 := if b = true then 1 else 0
theorem cf_b_t : cf_b true = 1 := rfl
theorem cf_b_f : cf_b false = 0 := rfl
theorem cf_b_0 {b : Bool} (h : cf_b b = 0) : b = false := by
  cases b
  · rfl
  · exact absurd h (by decide)
theorem cf_b_1 {b : Bool} (h : ¬ cf_b b = 0) : b = true := by
  cases b
  · exact absurd rfl h
  · rfl
theorem cf_b_nar (b : Bool) : vp_nar .boolean (cf_b b) = cf_b b := by cases b <;> rfl
theorem cf_b_fit (b : Bool) : narrow .boolean (.int (cf_b b)) = .int (cf_b b) ∧ fits .boolean (.int (cf_b b)) = true := by cases b <;> exact ⟨rfl, rfl⟩
def cf_up {α : Type} (f : Nat → α) (k : Nat) (x : α) : Nat → α := fun j => if j = k then x else f j
theorem cf_up_s {α : Type} (f : Nat → α) (k : Nat) (x : α) : cf_up f k x k = x := if_pos rfl
theorem cf_up_n {α : Type} (f : Nat → α) {k j : Nat} (x : α) (h : ¬ j = k) : cf_up f k x j = f j := if_neg h
def cf_cpy {α : Type} (dst src : Nat → α) (d s m : Nat) : Nat → α := fun j => if d ≤ j ∧ j < d + m then src (s + (j - d)) else dst j
theorem cf_cpy_in {α : Type} {dst src : Nat → α} {d s m j : Nat} (h1 : d ≤ j) (h2 : j < d + m) : cf_cpy dst src d s m j = src (s + (j - d)) := if_pos ⟨h1, h2⟩
theorem cf_cpy_out {α : Type} {dst src : Nat → α} {d s m j : Nat} (h : ¬ (d ≤ j ∧ j < d + m)) : cf_cpy dst src d s m j = dst j := if_neg h
theorem cf_cpy_0 {α : Type} (dst src : Nat → α) (d s : Nat) : cf_cpy dst src d s 0 = dst := by
  funext j
  exact if_neg (by omega)
theorem cf_cpy_s {α : Type} {dst src : Nat → α} {d s m k : Nat} {x : α} (hk : k = d + m) (hx : x = src (s + m)) : cf_up (cf_cpy dst src d s m) k x = cf_cpy dst src d s (m + 1) := by
  subst hk
  subst hx
  funext j
  by_cases h : j = d + m
  · subst h
    rw [cf_up_s, cf_cpy_in (by omega) (by omega)]
    congr 1
    omega
  · rw [cf_up_n _ _ h]
    by_cases h2 : d ≤ j ∧ j < d + m
    · rw [cf_cpy_in h2.1 h2.2, cf_cpy_in h2.1 (by omega)]
    · rw [cf_cpy_out h2, cf_cpy_out (by omega)]
/-- home, mark, logPage, logByte, tries, verified, inTransaction, staged, stagedByte -/
abbrev CFt : Type := (Nat → Int32) × Nat × (Nat → Nat) × (Nat → Int32) × Int32 × Bool × Bool × (Nat → Bool) × (Nat → Int32)
/-- what keeps CardFiles inside its arrays -/
def cf_ok (u : CFt) : Prop := match u with
  | (_, n, lp, _, _, _, _, _, _) => n ≤ 14 ∧ ∀ k, lp k < 14
def cf_look (lp : Nat → Nat) (lb : Nat → Int32) (hm : Int32) (pg ix : Nat) : Nat → Nat → Int32
  | 0, _ => hm
  | c + 1, k => if lp k = pg then lb (8 * k + ix) else cf_look lp lb hm pg ix c (k + 1)
def cf_dv (home : Nat → Int32) (n : Nat) (lp : Nat → Nat) (lb : Nat → Int32) (pg ix : Nat) : Int32 := cf_look lp lb (home (8 * pg + ix)) pg ix n 0
def cf_byte (u : CFt) (pg ix : Nat) : Int32 := match u with
  | (home, n, lp, lb, _, _, _, sg, sb) => if sg pg = true then sb (8 * pg + ix) else cf_dv home n lp lb pg ix
def cf_stage (u : CFt) (pg : Nat) : CFt := match u with
  | (home, n, lp, lb, tr, ver, tx, sg, sb) => if sg pg = true then (home, n, lp, lb, tr, ver, tx, sg, sb) else (home, n, lp, lb, tr, ver, tx, cf_up sg pg true, cf_cpy sb (fun i => cf_dv home n lp lb pg i) (8 * pg) 0 8)
def cf_unst (sg : Nat → Bool) : Nat → Bool := cf_cpy sg (fun _ => false) 0 0 14
def cf_unstage (u : CFt) : CFt := match u with
  | (home, n, lp, lb, tr, ver, tx, sg, sb) => (home, n, lp, lb, tr, ver, tx, cf_unst sg, sb)
def cf_hk (home : Nat → Int32) (lp : Nat → Nat) (lb : Nat → Int32) (k : Nat) : Nat → Int32 := cf_cpy home lb (8 * lp k) (8 * k) 8
def cf_hall (home : Nat → Int32) (lp : Nat → Nat) (lb : Nat → Int32) : Nat → Nat → Int32
  | 0 => home
  | k + 1 => cf_hk (cf_hall home lp lb k) lp lb k
def cf_home1 (u : CFt) (k : Nat) : CFt := match u with
  | (home, n, lp, lb, tr, ver, tx, sg, sb) => (cf_hk home lp lb k, n, lp, lb, tr, ver, tx, sg, sb)
def cf_homeAll (u : CFt) : CFt := match u with
  | (home, n, lp, lb, tr, ver, tx, sg, sb) => (cf_hall home lp lb n, 0, lp, lb, tr, ver, tx, sg, sb)
def cf_wl (lp : Nat → Nat) (lb : Nat → Int32) (sg : Nat → Bool) (sb : Nat → Int32) : Nat → Nat × (Nat → Nat) × (Nat → Int32)
  | 0 => (0, lp, lb)
  | p + 1 => if sg p = true then ((cf_wl lp lb sg sb p).1 + 1, cf_up (cf_wl lp lb sg sb p).2.1 (cf_wl lp lb sg sb p).1 p, cf_cpy (cf_wl lp lb sg sb p).2.2 sb (8 * (cf_wl lp lb sg sb p).1) (8 * p) 8) else cf_wl lp lb sg sb p
def cf_write (u : CFt) : CFt := match u with
  | (home, n, lp, lb, tr, ver, tx, sg, sb) => (cf_hall home lp lb n, (cf_wl lp lb sg sb 14).1, (cf_wl lp lb sg sb 14).2.1, (cf_wl lp lb sg sb 14).2.2, tr, ver, tx, cf_unst sg, sb)
def cf_start (u : CFt) : CFt := match u with
  | (home, n, lp, lb, tr, _, _, sg, sb) => (cf_hall home lp lb n, 0, lp, lb, tr, false, false, cf_unst sg, sb)
def cf_setsb (u : CFt) (j : Nat) (x : Int32) : CFt := match u with
  | (home, n, lp, lb, tr, ver, tx, sg, sb) => (home, n, lp, lb, tr, ver, tx, sg, cf_up sb j x)
def cf_tr (u : CFt) : Int32 := match u with
  | (_, _, _, _, tr, _, _, _, _) => tr
def cf_ver (u : CFt) : Bool := match u with
  | (_, _, _, _, _, ver, _, _, _) => ver
def cf_tx (u : CFt) : Bool := match u with
  | (_, _, _, _, _, _, tx, _, _) => tx
def cf_setv (u : CFt) (t : Int32) (v : Bool) : CFt := match u with
  | (home, n, lp, lb, _, _, tx, sg, sb) => (home, n, lp, lb, t, v, tx, sg, sb)
def cf_settx (u : CFt) (x : Bool) : CFt := match u with
  | (home, n, lp, lb, tr, ver, _, sg, sb) => (home, n, lp, lb, tr, ver, x, sg, sb)
def cf_size (u : CFt) (f : Int32) : Int32 := if f < 0 ∨ 5 < f then 0 else cf_byte u 12 f.toNatClampNeg &&& 31
def cf_refuse (u : CFt) (f o : Int32) : Int32 := if f < 0 ∨ 5 < f ∨ o < 0 ∨ cf_size u f ≤ o then -1 else if cf_byte u 12 f.toNatClampNeg &&& 32 = 0 then 0 else if cf_ver u = true then 0 else -3
def cf_create (u : CFt) (f z : Int32) (g : Bool) : Int32 × CFt :=
  if f < 0 ∨ 5 < f ∨ 0 < cf_size u f ∨ z < 1 ∨ 16 < z then (-1, u) else if cf_tx u = true then (-2, u) else (0, cf_write (cf_setsb (cf_stage u 12) (96 + f.toNatClampNeg) (z + (if g = true then 32 else 0))))
def cf_page (f o : Int32) : Nat := 2 * f.toNatClampNeg + o.toNatClampNeg / 8
def cf_upd1 (u : CFt) (f o v : Int32) : CFt := cf_setsb (cf_stage u (cf_page f o)) (8 * cf_page f o + o.toNatClampNeg % 8) (v &&& 255)
def cf_update (u : CFt) (f o v : Int32) : Int32 × CFt :=
  if cf_refuse u f o = 0 then (if cf_tx u = true then (0, cf_upd1 u f o v) else (0, cf_write (cf_upd1 u f o v))) else (cf_refuse u f o, u)
def cf_read (u : CFt) (f o : Int32) : Int32 := if cf_refuse u f o = 0 then cf_byte u (cf_page f o) (o.toNatClampNeg % 8) else cf_refuse u f o
def cf_begin (u : CFt) : Int32 × CFt := if cf_tx u = true then (-2, u) else (0, cf_settx u true)
def cf_commit (u : CFt) : Int32 × CFt := if cf_tx u = true then (0, cf_write (cf_settx u false)) else (-2, u)
def cf_abort (u : CFt) : Int32 × CFt := if cf_tx u = true then (0, cf_unstage (cf_settx u false)) else (-2, u)
def cf_own (u : CFt) : Int32 := cf_byte u 13 0 + 256 * cf_byte u 13 1
def cf_verify (u : CFt) (c : Int32) : Int32 × CFt := if cf_tr u = 0 then (-4, u) else if cf_own u = c then (3, cf_setv u 3 true) else (cf_tr u - 1, cf_setv u (cf_tr u - 1) false)
def cf_change (u : CFt) (c : Int32) : Int32 × CFt :=
  if c < 0 ∨ 9999 < c then (-1, u) else if cf_ver u = true then (if cf_tx u = true then (-2, u) else (0, cf_write (cf_setsb (cf_setsb (cf_stage u 13) 104 (c &&& 255)) 105 (c >>> (8 &&& 31))))) else (-3, u)
def cf_torn (u : CFt) (mk : Bool) (pg : Int32) : CFt := match u with
  | (home, n, lp, lb, tr, _, _, sg, sb) => (cf_hall (cf_hall home lp lb (min (if mk = true then n else 0) pg.toNatClampNeg)) lp lb (if mk = true then n else 0), 0, lp, lb, tr, false, false, cf_unst sg, sb)
def cf_state (u : CFt) : Int32 := cf_tr u + (if cf_ver u = true then 4 else 0)
def cf_new : CFt := (cf_up (cf_up (fun _ => 0) 104 210) 105 4, 0, fun _ => 0, fun _ => 0, 3, false, false, fun _ => false, fun _ => 0)
/-- sizes, guards, bytes, code, tries, verified, in a transaction, seen, changed, oldSizes, oldGuards, oldBytes, oldCode -/
abbrev MDt : Type := (Nat → Nat) × (Nat → Bool) × (Nat → Int32) × Int32 × Int32 × Bool × Bool × (Nat → Int32) × Bool × (Nat → Nat) × (Nat → Bool) × (Nat → Int32) × Int32
def md_ok (v : MDt) : Prop := match v with
  | (sz, _, _, _, _, _, _, _, _, _, _, _, _) => ∀ k, k < 6 → sz k ≤ 16
def md_keep (v : MDt) : MDt := match v with
  | (sz, gd, by_, cd, tr, ver, op, sn, _, oz, og, ob, _) => (sz, gd, by_, cd, tr, ver, op, sn, true, cf_cpy oz sz 0 0 6, cf_cpy og gd 0 0 6, cf_cpy ob by_ 0 0 96, cd)
def md_sz (v : MDt) (f : Nat) : Nat := match v with
  | (sz, _, _, _, _, _, _, _, _, _, _, _, _) => sz f
def md_gd (v : MDt) (f : Nat) : Bool := match v with
  | (_, gd, _, _, _, _, _, _, _, _, _, _, _) => gd f
def md_tr (v : MDt) : Int32 := match v with
  | (_, _, _, _, tr, _, _, _, _, _, _, _, _) => tr
def md_ver (v : MDt) : Bool := match v with
  | (_, _, _, _, _, ver, _, _, _, _, _, _, _) => ver
def md_op (v : MDt) : Bool := match v with
  | (_, _, _, _, _, _, op, _, _, _, _, _, _) => op
def md_cd (v : MDt) : Int32 := match v with
  | (_, _, _, cd, _, _, _, _, _, _, _, _, _) => cd
def md_setop (v : MDt) (x : Bool) : MDt := match v with
  | (sz, gd, by_, cd, tr, ver, _, sn, ch, oz, og, ob, oc) => (sz, gd, by_, cd, tr, ver, x, sn, ch, oz, og, ob, oc)
def md_setv (v : MDt) (t : Int32) (b : Bool) : MDt := match v with
  | (sz, gd, by_, cd, _, _, op, sn, ch, oz, og, ob, oc) => (sz, gd, by_, cd, t, b, op, sn, ch, oz, og, ob, oc)
def md_setcd (v : MDt) (c : Int32) : MDt := match v with
  | (sz, gd, by_, _, tr, ver, op, sn, ch, oz, og, ob, oc) => (sz, gd, by_, c, tr, ver, op, sn, ch, oz, og, ob, oc)
def md_put (v : MDt) (j : Nat) (x : Int32) : MDt := match v with
  | (sz, gd, by_, cd, tr, ver, op, sn, ch, oz, og, ob, oc) => (sz, gd, cf_up by_ j x, cd, tr, ver, op, sn, ch, oz, og, ob, oc)
def md_see (v : MDt) (j : Nat) (x : Int32) : MDt := match v with
  | (sz, gd, by_, cd, tr, ver, op, sn, ch, oz, og, ob, oc) => (sz, gd, by_, cd, tr, ver, op, cf_up sn j x, ch, oz, og, ob, oc)
def md_at (v : MDt) (j : Nat) : Int32 := match v with
  | (_, _, by_, _, _, _, op, sn, _, _, _, _, _) => if op = true then sn j else by_ j
def md_make (v : MDt) (f z : Nat) (g : Bool) : MDt := match v with
  | (sz, gd, by_, cd, tr, ver, op, sn, ch, oz, og, ob, oc) => (cf_up sz f z, cf_up gd f g, cf_cpy by_ (fun _ => 0) (16 * f) 0 16, cd, tr, ver, op, sn, ch, oz, og, ob, oc)
def md_create (v : MDt) (f z : Int32) (g : Bool) : Int32 × MDt :=
  if f < 0 ∨ 5 < f ∨ 0 < nI (md_sz v f.toNatClampNeg) ∨ z < 1 ∨ 16 < z then (-1, v) else if md_op v = true then (-2, v) else (0, md_make (md_keep v) f.toNatClampNeg z.toNatClampNeg g)
def md_refuse (v : MDt) (f o : Int32) : Int32 := if f < 0 ∨ 5 < f ∨ o < 0 ∨ nI (md_sz v f.toNatClampNeg) ≤ o then -1 else if md_gd v f.toNatClampNeg = true then (if md_ver v = true then 0 else -3) else 0
def md_ix (f o : Int32) : Nat := 16 * f.toNatClampNeg + o.toNatClampNeg
def md_update (v : MDt) (f o x : Int32) : Int32 × MDt :=
  if md_refuse v f o < 0 then (md_refuse v f o, v) else if md_op v = true then (0, md_see v (md_ix f o) (x &&& 255)) else (0, md_put (md_keep v) (md_ix f o) (x &&& 255))
def md_read (v : MDt) (f o : Int32) : Int32 := if md_refuse v f o < 0 then md_refuse v f o else md_at v (md_ix f o)
def md_open (v : MDt) : MDt := match v with
  | (sz, gd, by_, cd, tr, ver, _, sn, ch, oz, og, ob, oc) => (sz, gd, by_, cd, tr, ver, true, cf_cpy sn by_ 0 0 96, ch, oz, og, ob, oc)
def md_begin (v : MDt) : Int32 × MDt := if md_op v = true then (-2, v) else (0, md_open v)
def md_shut (v : MDt) : MDt := match v with
  | (sz, gd, by_, cd, tr, ver, _, sn, ch, oz, og, ob, oc) => (sz, gd, cf_cpy by_ sn 0 0 96, cd, tr, ver, false, sn, ch, oz, og, ob, oc)
def md_commit (v : MDt) : Int32 × MDt := if md_op v = true then (0, md_shut (md_keep v)) else (-2, v)
def md_abort (v : MDt) : Int32 × MDt := if md_op v = true then (0, md_setop v false) else (-2, v)
def md_verify (v : MDt) (c : Int32) : Int32 × MDt := if md_tr v = 0 then (-4, v) else if c = md_cd v then (3, md_setv v 3 true) else (md_tr v - 1, md_setv v (md_tr v - 1) false)
def md_change (v : MDt) (c : Int32) : Int32 × MDt :=
  if c < 0 ∨ 9999 < c then (-1, v) else if md_ver v = true then (if md_op v = true then (-2, v) else (0, md_setcd (md_keep v) c)) else (-3, v)
def md_power (v : MDt) : MDt := match v with
  | (sz, gd, by_, cd, tr, _, _, sn, _, oz, og, ob, oc) => (sz, gd, by_, cd, tr, false, false, sn, false, oz, og, ob, oc)
def md_back (v : MDt) : MDt := match v with
  | (sz, gd, by_, _, tr, ver, op, sn, ch, oz, og, ob, oc) => (cf_cpy sz oz 0 0 6, cf_cpy gd og 0 0 6, cf_cpy by_ ob 0 0 96, oc, tr, ver, op, sn, ch, oz, og, ob, oc)
def md_ch (v : MDt) : Bool := match v with
  | (_, _, _, _, _, _, _, _, ch, _, _, _, _) => ch
def md_torn (v : MDt) (mk : Bool) : MDt := if md_ch v = true then (if mk = true then md_power v else md_power (md_back v)) else md_power v
def md_size (v : MDt) (f : Int32) : Int32 := if f < 0 ∨ 5 < f then 0 else nI (md_sz v f.toNatClampNeg)
def md_state (v : MDt) : Int32 := md_tr v + (if md_ver v = true then 4 else 0)
def md_new : MDt := (fun _ => 0, fun _ => false, fun _ => 0, 1234, 3, false, false, fun _ => 0, false, fun _ => 0, fun _ => false, fun _ => 0, 0)
end
section
/-! ROWS over the kit: a loop, a call by contract, arrays by natural places -/
abbrev vwCl : List vw_C := [(RX0, TX0, 9), (RX1, TX1, 13)]
abbrev tyW (cI cZ : ClassId) : List (ClassId × FieldType) := [(cI, .int), (cZ, .boolean)]
abbrev wX (ad : Nat → Nat) (cI cZ : ClassId) (u : CFt) : va_W := match u with
  | (home, n, lp, lb, tr, ver, tx, sg, sb) => [(ad 0, .inr (0, [.ref (ad 1), .int (nI n), .ref (ad 2), .ref (ad 3), .int tr, .int (cf_b ver), .int (cf_b tx), .ref (ad 4), .ref (ad 5)])), (ad 1, .inl (cI, 112, .inl home)), (ad 2, .inl (cI, 14, .inl (fun k => nI (lp k)))), (ad 3, .inl (cI, 112, .inl lb)), (ad 4, .inl (cZ, 14, .inl (fun k => cf_b (sg k)))), (ad 5, .inl (cI, 112, .inl sb))]
abbrev wM (ad : Nat → Nat) (cI cZ : ClassId) (v : MDt) : va_W := match v with
  | (sz, gd, by_, cd, tr, ver, op, sn, ch, oz, og, ob, oc) => [(ad 0, .inr (1, [.ref (ad 1), .ref (ad 2), .ref (ad 3), .int cd, .int tr, .int (cf_b ver), .int (cf_b op), .ref (ad 4), .int (cf_b ch), .ref (ad 5), .ref (ad 6), .ref (ad 7), .int oc])), (ad 1, .inl (cI, 6, .inl (fun k => nI (sz k)))), (ad 2, .inl (cZ, 6, .inl (fun k => cf_b (gd k)))), (ad 3, .inl (cI, 96, .inl by_)), (ad 4, .inl (cI, 96, .inl sn)), (ad 5, .inl (cI, 6, .inl (fun k => nI (oz k)))), (ad 6, .inl (cZ, 6, .inl (fun k => cf_b (og k)))), (ad 7, .inl (cI, 96, .inl ob))]
def pW (D : va_G) (tys : List (ClassId × FieldType)) (sz : Nat) (ws : va_W) (U : State) : Prop := U.heap.size = sz ∧ va_P D vwCl ws U.heap ∧ va_K D vwCl tys U ∧ va_D (fun _ => True) ws
def bW (D : va_G) (tys : List (ClassId × FieldType)) (A : Nat → Prop) (ws : va_W) (t : State) : Prop := va_P D vwCl ws t.heap ∧ va_K D vwCl tys t ∧ va_D A ws
/-- a contract: an int comes back -/
def MCi {S : Type} (l : Launch) (y : MethodName) (b : ByteArray) (L : Nat) (rm : Room) (D : va_G) (tys : List (ClassId × FieldType)) (avs : List Value) (wc : va_W) (post : Int32 → S → Prop) (w : S → va_W) : Prop :=
  ∀ sz : Nat, Met l y (ws_ y b L (some .int)) rm (va_Pc avs (pW D tys sz wc)) (va_Qi post (fun u t => bW D tys (va_A wc sz) (w u) t) (va_A wc sz)) 0 0 (va_A wc sz)
/-- a contract: nothing comes back -/
def MCv {S : Type} (l : Launch) (y : MethodName) (b : ByteArray) (L : Nat) (rm : Room) (D : va_G) (tys : List (ClassId × FieldType)) (avs : List Value) (wc : va_W) (post : S → Prop) (w : S → va_W) : Prop :=
  ∀ sz : Nat, Met l y (ws_ y b L none) rm (va_Pc avs (pW D tys sz wc)) (va_Qv post (fun u t => bW D tys (va_A wc sz) (w u) t) (va_A wc sz)) 0 0 (va_A wc sz)
theorem mc_start {l : Launch} {y : MethodName} {b : ByteArray} {L : Nat} {ret : Option FieldType} {rm : Room} {D : va_G} {tys : List (ClassId × FieldType)} {avs : List Value} {wc : va_W} {Qk : (Nat → Prop) → Array Value → State → Outcome → State → Prop} {mc ms : Nat} (hy : plainName y.cls = true) (hlen : (lg_sl avs).length ≤ L)
    (body : ∀ (p : Program) (e : Env) (s : State) (m : MethodId) (below : List Frame) (meth : Method) (c : Code) (A : Nat → Prop), p.tables.exec = Jvm.exec → c.code = b → meth.sig.returnType = ret → c.maxLocals = L → s.vm.findClass y.cls = some m.cls → (∀ w ∈ lw_all, w.before avs.toArray s = true) → meth.locks = false → meth.name = y.name → va_K D vwCl tys s → va_P D vwCl wc s.heap → va_D A wc → (∀ q : Nat, s.heap.size ≤ q → A q) → va_S A s.heap s.heap [] → ∀ ls : Array Slot, lv_has ls L (lv_args 0 avs) → W p l e rm s m avs.toArray below meth c s.heap [] 0 0 (MQ below (Qk A) avs.toArray s mc ms A) (F0 m 0 ls [])) :
    ∀ sz : Nat, Met l y (ws_ y b L ret) rm (va_Pc avs (pW D tys sz wc)) (Qk (va_A wc sz)) mc ms (va_A wc sz) := by
  intro sz
  refine Met.ofW (cc := b) (maxL := L) (ret := ret) hy rfl ?_
  intro p e s m args below meth c s₁ B hml hv
  obtain ⟨rfl, hsz, hP, hK, hD0⟩ := hv
  have hts := atoms_spec (ws := ws_ y b L ret) B.pre
  have hts2 : ∀ w ∈ lw_all, w.before _ s = true := fun w h => hts w (List.mem_cons_of_mem _ h)
  subst hsz
  have hl := lv_entry avs (n := L) hlen
  rw [lg_entry_eq]
  generalize (lg_sl avs ++ List.replicate (L - (lg_sl avs).length) Slot.unset).toArray = ls at hl ⊢
  exact body p e s m below meth c _ B.exec B.bytes B.returns hml (findClass_of_methodNamed B.named) hts2 B.notSynchronized (name_of_methodNamed B.named B.method).1 hK hP hD0.self (fun q h => Or.inr h) va_S.rf ls hl
section WK
variable {p : Program} {l : Launch} {e : Env} {R : Room} {s : State} {m : MethodId} {args : Array Value} {below : List Frame} {meth : Method} {c : Code} {H : Heap} {locs : List Loc} {cells slots : Nat} {Q : State → Prop}
variable {cc : ByteArray} {pc : Nat} {ls : Array Slot} {rest : List Value} {D : va_G} {cl : List vw_C} {A : Nat → Prop} {a : Nat} {tys : List (ClassId × FieldType)} {ws : va_W} {H0 : Heap}
theorem w_loop {st : List Value} (I : Nat → Heap → List Loc → Array Slot → Prop) (step : ∀ n : Nat, (∀ k : Nat, k < n → ∀ (H : Heap) (locs : List Loc) (ls : Array Slot), I k H locs ls → W p l e R s m args below meth c H locs cells slots Q (F0 m pc ls st)) → ∀ (H : Heap) (locs : List Loc) (ls : Array Slot), I n H locs ls → W p l e R s m args below meth c H locs cells slots Q (F0 m pc ls st)) : ∀ (n : Nat) (H : Heap) (locs : List Loc) (ls : Array Slot), I n H locs ls → W p l e R s m args below meth c H locs cells slots Q (F0 m pc ls st) := by
  intro n
  induction n using Nat.strongRecOn with
  | ind n ih => exact step n ih
theorem w_top {x y : Int32} (h : x = y) (k : W p l e R s m args below meth c H locs cells slots Q (F0 m pc ls (.int y :: rest))) : W p l e R s m args below meth c H locs cells slots Q (F0 m pc ls (.int x :: rest)) := by
  subst h
  exact k
theorem na_iald (hexec : p.tables.exec = Jvm.exec) (hb : c.code = cc) (hK : va_K D cl tys s) (hP : va_P D cl ws H) (q0 t0 : Nat) {cA : ClassId} {n : Nat} {f : Nat → Int32} (ha : ws[q0]? = some (a, .inl (cA, n, .inl f))) (ht : tys[t0]? = some (cA, .int)) {j : Nat} (hj : j < n) (hn : n < 2 ^ 31) (hdg : decode cc pc = .ok (.iaload, 1))
    (kk : W p l e R s m args below meth c H locs cells slots Q (F0 m (pc + 1) ls (.int (f j) :: rest))) : W p l e R s m args below meth c H locs cells slots Q (F0 m pc ls (.int (nI j) :: .ref a :: rest)) := by
  refine va_iald hexec hb hK hP q0 t0 ha ht (vp_in_nI hj hn) hdg ?_
  rw [nI_clamp (Nat.lt_trans hj hn)]
  exact kk
theorem na_zald (hexec : p.tables.exec = Jvm.exec) (hb : c.code = cc) (hK : va_K D cl tys s) (hP : va_P D cl ws H) (q0 t0 : Nat) {cA : ClassId} {n : Nat} {g : Nat → Bool} (ha : ws[q0]? = some (a, .inl (cA, n, .inl (fun k => cf_b (g k))))) (ht : tys[t0]? = some (cA, .boolean)) {j : Nat} (hj : j < n) (hn : n < 2 ^ 31) (hdg : decode cc pc = .ok (.baload, 1))
    (kk : W p l e R s m args below meth c H locs cells slots Q (F0 m (pc + 1) ls (.int (cf_b (g j)) :: rest))) : W p l e R s m args below meth c H locs cells slots Q (F0 m pc ls (.int (nI j) :: .ref a :: rest)) := by
  refine va_zald hexec hb hK hP q0 t0 ha ht (vp_in_nI hj hn) hdg ?_
  rw [nI_clamp (Nat.lt_trans hj hn)]
  exact kk
theorem na_iast (hexec : p.tables.exec = Jvm.exec) (hb : c.code = cc) (hK : va_K D cl tys s) (hP : va_P D cl ws H) (hD : va_D A ws) (hS : va_S A H0 H locs) (q0 t0 : Nat) {cA : ClassId} {n : Nat} {f : Nat → Int32} (ha : ws[q0]? = some (a, .inl (cA, n, .inl f))) (ht : tys[t0]? = some (cA, .int)) {j : Nat} {x : Int32} (hj : j < n) (hn : n < 2 ^ 31) {g : Nat → Int32} (hg : cf_up f j x = g) (hdg : decode cc pc = .ok (.iastore, 1))
    (kk : ∀ (H1 : Heap) (locs1 : List Loc), va_P D cl (ws.set q0 (a, .inl (cA, n, .inl g))) H1 → va_D A (ws.set q0 (a, .inl (cA, n, .inl g))) → va_S A H0 H1 locs1 → W p l e R s m args below meth c H1 locs1 cells slots Q (F0 m (pc + 1) ls rest)) : W p l e R s m args below meth c H locs cells slots Q (F0 m pc ls (.int x :: .int (nI j) :: .ref a :: rest)) := by
  subst hg
  refine va_iast hexec hb hK hP hD hS q0 t0 ha ht (vp_in_nI hj hn) hdg ?_
  rw [nI_clamp (Nat.lt_trans hj hn)]
  exact kk
/-- a place of an array of small numbers -/
theorem na_nast (hexec : p.tables.exec = Jvm.exec) (hb : c.code = cc) (hK : va_K D cl tys s) (hP : va_P D cl ws H) (hD : va_D A ws) (hS : va_S A H0 H locs) (q0 t0 : Nat) {cA : ClassId} {n : Nat} {f : Nat → Nat} (ha : ws[q0]? = some (a, .inl (cA, n, .inl (fun k => nI (f k))))) (ht : tys[t0]? = some (cA, .int)) {j x : Nat} (hj : j < n) (hn : n < 2 ^ 31) {g : Nat → Nat} (hg : cf_up f j x = g) (hdg : decode cc pc = .ok (.iastore, 1))
    (kk : ∀ (H1 : Heap) (locs1 : List Loc), va_P D cl (ws.set q0 (a, .inl (cA, n, .inl (fun k => nI (g k))))) H1 → va_D A (ws.set q0 (a, .inl (cA, n, .inl (fun k => nI (g k))))) → va_S A H0 H1 locs1 → W p l e R s m args below meth c H1 locs1 cells slots Q (F0 m (pc + 1) ls rest)) : W p l e R s m args below meth c H locs cells slots Q (F0 m pc ls (.int (nI x) :: .int (nI j) :: .ref a :: rest)) := by
  subst hg
  refine na_iast hexec hb hK hP hD hS q0 t0 ha ht hj hn (g := fun k => nI (cf_up f j x k)) ?_ hdg kk
  funext k
  unfold cf_up
  by_cases h : k = j
  · rw [if_pos h, if_pos h]
  · rw [if_neg h, if_neg h]
theorem na_zast (hexec : p.tables.exec = Jvm.exec) (hb : c.code = cc) (hK : va_K D cl tys s) (hP : va_P D cl ws H) (hD : va_D A ws) (hS : va_S A H0 H locs) (q0 t0 : Nat) {cA : ClassId} {n : Nat} {f : Nat → Bool} (ha : ws[q0]? = some (a, .inl (cA, n, .inl (fun k => cf_b (f k))))) (ht : tys[t0]? = some (cA, .boolean)) {j : Nat} {x : Bool} (hj : j < n) (hn : n < 2 ^ 31) {g : Nat → Bool} (hg : cf_up f j x = g) (hdg : decode cc pc = .ok (.bastore, 1))
    (kk : ∀ (H1 : Heap) (locs1 : List Loc), va_P D cl (ws.set q0 (a, .inl (cA, n, .inl (fun k => cf_b (g k))))) H1 → va_D A (ws.set q0 (a, .inl (cA, n, .inl (fun k => cf_b (g k))))) → va_S A H0 H1 locs1 → W p l e R s m args below meth c H1 locs1 cells slots Q (F0 m (pc + 1) ls rest)) : W p l e R s m args below meth c H locs cells slots Q (F0 m pc ls (.int (cf_b x) :: .int (nI j) :: .ref a :: rest)) := by
  subst hg
  refine va_zast hexec hb hK hP hD hS q0 t0 ha ht (vp_in_nI hj hn) hdg ?_
  rw [nI_clamp (Nat.lt_trans hj hn), cf_b_nar]
  have he : upd (fun k => cf_b (f k)) j (cf_b x) = fun k => cf_b (cf_up f j x k) := by
    funext k
    unfold upd cf_up
    by_cases h : k = j
    · rw [if_pos h, if_pos h]
    · rw [if_neg h, if_neg h]
  rw [he]
  exact kk
theorem w_pick {is : List Nat} {wc : va_W} (h : is.map (fun i => ws[i]?) = wc.map some) : is.filterMap (fun i => ws[i]?) = wc := by
  have h2 : (is.map (fun i => ws[i]?)).filterMap id = (wc.map some).filterMap id := by rw [h]
  rw [List.filterMap_map, List.filterMap_map] at h2
  simpa using h2
theorem w_calli {S : Type} {y : MethodName} {b : ByteArray} {L : Nat} {rm : Room} {As : List Value} {wc wr : va_W} {post : Int32 → S → Prop} {w : S → va_W} {own C : String} {index n ci nL N : Nat} {T : u_T} {fs : List Value} {st0 : List Value}
    (hM : MCi l y b L rm D tys (.ref a :: As) wc post w) (isC isR : List Nat) (q0 : Nat) (hF : CallFix p m c cc nL s args lw_all own) (cw : CallW R s args own C index y b L (some .int) (ws_ y b L (some .int)) rm 0 0 n)
    (hP : va_P D vwCl ws H) (hD : va_D A ws) (hK : va_K D vwCl tys s) (hS : va_S A s.heap H locs) (hA : ∀ q : Nat, s.heap.size ≤ q → A q)
    (hC : isC.map (fun i => ws[i]?) = wc.map some) (hR : isR.map (fun i => ws[i]?) = wr.map some) (hnC : va_nd isC = true) (hnR : va_nd isR = true) (hdis : ∀ i ∈ isR, i ∉ isC)
    (he : wc[q0]? = some (a, .inr (ci, fs))) (hc : vwCl[ci]? = some (C, T, N)) (hn : As.length = n) (hsize : ls.size = nL) (hst : st0 = As.reverse ++ .ref a :: rest) (hW : (rest.map fun v => v.category).sum ≤ 8) (hdg : decode cc pc = .ok (.invokevirtual index, 3)) (hcs : cells ≤ R.cells ∧ slots ≤ R.slots)
    (kk : ∀ (r : Int32) (u : S) (H1 : Heap) (locs1 : List Loc), post r u → va_P D vwCl (wr ++ w u) H1 → va_D A (wr ++ w u) → va_S A s.heap H1 locs1 → W p l e R s m args below meth c H1 locs1 cells slots Q (F0 m (pc + 3) ls (.int r :: rest))) : W p l e R s m args below meth c H locs cells slots Q (F0 m pc ls st0) := by
  have hPc : va_P D vwCl wc H := hP.sub isC (w_pick hC)
  have hDc := hD.sub isC hnC hC
  have hFc := va_free (wc := wc) hD hS hA isC hC
  refine va_calli (va_runV hF (hM H.size) cw ⟨fun a U g mk q => ?_, va_recv hK hPc hc he, fun U hU hW => ⟨rfl, by rw [hU], by rw [hU]; exact hPc, va_K.moved hW.alike hK, hDc.weaken (fun _ _ _ _ => trivial)⟩⟩ rfl hn hsize hst (lv_room hW) hdg hcs) hS (fun q _ h => hFc q h) hFc (fun r u t H1 locs ht hvm hw hB hz1 hk1 hS => ?_)
  · obtain ⟨q0, q1, qP, qK, qD⟩ := q
    exact ⟨q0, q1, qP, va_K.moved (u := U) (U := U.calling g mk a) (Vm.Alike.refl U.vm) qK, qD⟩
  · obtain ⟨hP1, hK1, hD1⟩ := hB
    rw [ht] at hP1
    obtain ⟨hP, hD⟩ := va_join hP hD isC isR hC hR hnR hdis hk1 hFc hP1 hD1
    exact kk r u H1 locs hw hP hD hS
theorem w_callv {S : Type} {y : MethodName} {b : ByteArray} {L : Nat} {rm : Room} {As : List Value} {wc wr : va_W} {post : S → Prop} {w : S → va_W} {own C : String} {index n ci nL N : Nat} {T : u_T} {fs : List Value} {st0 : List Value}
    (hM : MCv l y b L rm D tys (.ref a :: As) wc post w) (isC isR : List Nat) (q0 : Nat) (hF : CallFix p m c cc nL s args lw_all own) (cw : CallW R s args own C index y b L none (ws_ y b L none) rm 0 0 n)
    (hP : va_P D vwCl ws H) (hD : va_D A ws) (hK : va_K D vwCl tys s) (hS : va_S A s.heap H locs) (hA : ∀ q : Nat, s.heap.size ≤ q → A q)
    (hC : isC.map (fun i => ws[i]?) = wc.map some) (hR : isR.map (fun i => ws[i]?) = wr.map some) (hnC : va_nd isC = true) (hnR : va_nd isR = true) (hdis : ∀ i ∈ isR, i ∉ isC)
    (he : wc[q0]? = some (a, .inr (ci, fs))) (hc : vwCl[ci]? = some (C, T, N)) (hn : As.length = n) (hsize : ls.size = nL) (hst : st0 = As.reverse ++ .ref a :: rest) (hW : (rest.map fun v => v.category).sum ≤ 8) (hdg : decode cc pc = .ok (.invokevirtual index, 3)) (hcs : cells ≤ R.cells ∧ slots ≤ R.slots)
    (kk : ∀ (u : S) (H1 : Heap) (locs1 : List Loc), post u → va_P D vwCl (wr ++ w u) H1 → va_D A (wr ++ w u) → va_S A s.heap H1 locs1 → W p l e R s m args below meth c H1 locs1 cells slots Q (F0 m (pc + 3) ls rest)) : W p l e R s m args below meth c H locs cells slots Q (F0 m pc ls st0) := by
  have hPc : va_P D vwCl wc H := hP.sub isC (w_pick hC)
  have hDc := hD.sub isC hnC hC
  have hFc := va_free (wc := wc) hD hS hA isC hC
  refine va_callv (va_runV hF (hM H.size) cw ⟨fun a U g mk q => ?_, va_recv hK hPc hc he, fun U hU hW => ⟨rfl, by rw [hU], by rw [hU]; exact hPc, va_K.moved hW.alike hK, hDc.weaken (fun _ _ _ _ => trivial)⟩⟩ rfl hn hsize hst (lv_room hW) hdg hcs) hS (fun q _ h => hFc q h) hFc (fun u t H1 locs ht hvm hw hB hz1 hk1 hS => ?_)
  · obtain ⟨q0, q1, qP, qK, qD⟩ := q
    exact ⟨q0, q1, qP, va_K.moved (u := U) (U := U.calling g mk a) (Vm.Alike.refl U.vm) qK, qD⟩
  · obtain ⟨hP1, hK1, hD1⟩ := hB
    rw [ht] at hP1
    obtain ⟨hP, hD⟩ := va_join hP hD isC isR hC hR hnR hdis hk1 hFc hP1 hD1
    exact kk u H1 locs hw hP hD hS
/-- the end of a method with an int -/
theorem w_iret {S : Type} {post : Int32 → S → Prop} {w : S → va_W} {v : Int32} (u : S) (hexec : p.tables.exec = Jvm.exec) (hb : c.code = cc) (hr : meth.sig.returnType = some .int) (hlocks : meth.locks = false) (hK : va_K D vwCl tys s) (hP : va_P D vwCl (w u) H) (hD : va_D A (w u)) (hS : va_S A s.heap H locs) (hdg : decode cc pc = .ok (.ireturn, 1)) (hq : post v u) :
    W p l e R s m args below meth c H locs cells slots (MQ below (va_Qi post (fun u t => bW D tys A (w u) t) A) args s cells slots A) (F0 m pc ls [.int v]) :=
  W.iret (v := v) hexec hb hr (fun t ht hW => ⟨⟨v, u, rfl, hq, by rw [ht]; exact hP, va_K.moved hW.alike hK, hD⟩, hS.F ht⟩) hS.2.2 hdg hlocks
/-- the end of a method with nothing -/
theorem w_vret {S : Type} {post : S → Prop} {w : S → va_W} (u : S) (hexec : p.tables.exec = Jvm.exec) (hb : c.code = cc) (hr : meth.sig.returnType = none) (hlocks : meth.locks = false) (hK : va_K D vwCl tys s) (hP : va_P D vwCl (w u) H) (hD : va_D A (w u)) (hS : va_S A s.heap H locs) (hdg : decode cc pc = .ok (.return_, 1)) (hq : post u) :
    W p l e R s m args below meth c H locs cells slots (MQ below (va_Qv post (fun u t => bW D tys A (w u) t) A) args s cells slots A) (F0 m pc ls []) :=
  W.vret hexec hb hr (fun t ht hW => ⟨⟨u, rfl, hq, by rw [ht]; exact hP, va_K.moved hW.alike hK, hD⟩, hS.F ht⟩) hS.2.2 hdg hlocks
end WK
/-! small numbers -/
theorem nn_c (k : Nat) (a : Nat) : nI k * nI a = nI (k * a) := pk_mul k a
theorem nn_8 (p i : Nat) : (8 : Int32) * nI p + nI i = nI (8 * p + i) := by
  rw [show (8 : Int32) = nI 8 from rfl, pk_mul, nI_add]
theorem nn_16 (p i : Nat) : (16 : Int32) * nI p + nI i = nI (16 * p + i) := by
  rw [show (16 : Int32) = nI 16 from rfl, pk_mul, nI_add]
end
section
/-! CONTRACTS of CardFiles: the leaves -/
theorem nn_eq {a b : Nat} (ha : a < 14) (hb : b < 14) (h : nI a = nI b) : a = b := (nI_eq (by omega) (by omega)).mp h
theorem nn_ne {a b : Nat} (h : ¬ nI a = nI b) : ¬ a = b := fun e => h (by rw [e])
theorem nn_le {a b : Nat} (ha : a < 2 ^ 31) (hb : b < 2 ^ 31) (h : nI a ≤ nI b) : a ≤ b := (nI_leI ha hb).mp h
theorem nn_nle {a b : Nat} (hb : b < 2 ^ 31) (h : ¬ nI a ≤ nI b) : b < a := Nat.lt_of_not_le (fun q => h (nI_le q hb))
theorem nn_leE {a b : Nat} (ha : a < 1000) (hb : b < 1000) (h : nI a ≤ nI b) : a ≤ b := nn_le (by omega) (by omega) h
theorem nn_nleE {a b : Nat} (hb : b < 1000) (h : ¬ nI a ≤ nI b) : b < a := nn_nle (by omega) h
set_option maxHeartbeats 4000000 in
set_option maxRecDepth 100000 in
/-- byteAt(page, index): as a staged page shows it, else the log, else home -/
theorem mX0_byteAt (l : Launch) (D : va_G) (ad : Nat → Nat) (cI cZ : ClassId) (u : CFt) (pg ix : Nat) (hu : cf_ok u) (hp : pg < 14) (hi : ix < 8) : MCi l yX0_byteAt cX0_byteAt 4 ({ frames := 0, cells := 0, slots := 0, locals := 0 }) D (tyW cI cZ) [.ref (ad 0), .int (nI pg), .int (nI ix)] (wX ad cI cZ u) (fun r u1 => r = cf_byte u pg ix ∧ u1 = u) (wX ad cI cZ) := by
  obtain ⟨home, n, lp, lb, tr, ver, tx, sg, sb⟩ := u
  obtain ⟨hn, hlp⟩ := hu
  unfold MCi
  refine mc_start (Qk := fun A => va_Qi _ (fun u t => bW D (tyW cI cZ) A (wX ad cI cZ u) t) A) (by decide) (Nat.le_of_ble_eq_true rfl) ?_
  intro p e s m below meth c A hx hb hr hml hown hts hloc hnm hK hP hD hA hS ls hl
  have hown : s.vm.findClass RX0 = some m.cls := hown
  have hl : lv_has ls 4 [(0, .ref (ad 0)), (1, .int (nI pg)), (2, .int (nI ix))] := hl
  refine lv_aload_n hx hb dX0_byteAt_0 rfl (lv_at hl 0 rfl) ?_
  refine va_get (D := D) (ci := 0) (v := .ref (ad 4)) (C := RX0) (T := TX0) (N := 9) hx hb hts in_X0 hown hK hP 0 rfl rfl 7 (by decide) (hts _ q28) (fun _ h9 => h9) rfl dX0_byteAt_1 ?_
  refine lv_iload_n hx hb dX0_byteAt_4 rfl (lv_at hl 1 rfl) ?_
  refine na_zald (g := sg) hx hb hK hP 4 1 rfl rfl (j := pg) hp (by decide) dX0_byteAt_5 ?_
  refine lv_if_eq (tgt := 21) hx hb dX0_byteAt_6 (by decide) (fun c6 => ?_) (fun c6 => ?_)
  · have hsg := cf_b_0 c6
    refine lv_iconst (v := nI 0) hx hb dX0_byteAt_21 (by rfl) ?_
    refine lv_istore_n (lv' := [(3, .int (nI 0)), (0, .ref (ad 0)), (1, .int (nI pg)), (2, .int (nI ix))]) hx hb dX0_byteAt_22 rfl hl (by decide) rfl (fun ls hl => ?_)
    refine w_loop (pc := 23) (fun k H locs ls => ∃ i : Nat, i + k = n ∧ cf_look lp lb (home (8 * pg + ix)) pg ix n 0 = cf_look lp lb (home (8 * pg + ix)) pg ix k i ∧ va_P D vwCl (wX ad cI cZ (home, n, lp, lb, tr, ver, tx, sg, sb)) H ∧ va_D A (wX ad cI cZ (home, n, lp, lb, tr, ver, tx, sg, sb)) ∧ va_S A s.heap H locs ∧ lv_has ls 4 [(0, .ref (ad 0)), (1, .int (nI pg)), (2, .int (nI ix)), (3, .int (nI i))]) (fun k ih H locs ls hI => ?_) n _ _ _ ⟨0, (by omega), rfl, hP, hD, hS, lv_sub hl [1, 2, 3, 0] rfl⟩
    obtain ⟨i, hik, hlk, hP, hD, hS, hl⟩ := hI
    refine lv_iload_n hx hb dX0_byteAt_23 rfl (lv_at hl 3 rfl) ?_
    refine lv_aload_n hx hb dX0_byteAt_24 rfl (lv_at hl 0 rfl) ?_
    refine va_get (D := D) (ci := 0) (v := .int (nI n)) (C := RX0) (T := TX0) (N := 9) hx hb hts in_X0 hown hK hP 0 rfl rfl 1 (by decide) (hts _ q22) (fun _ h9 => h9) rfl dX0_byteAt_25 ?_
    refine lv_icmp_ge (tgt := 59) hx hb dX0_byteAt_28 (by decide) (fun c28 => ?_) (fun c28 => ?_)
    · have hin := nn_leE (by omega) (by omega) c28
      have hk0 : k = 0 := by omega
      subst hk0
      refine lv_aload_n hx hb dX0_byteAt_59 rfl (lv_at hl 0 rfl) ?_
      refine va_get (D := D) (ci := 0) (v := .ref (ad 1)) (C := RX0) (T := TX0) (N := 9) hx hb hts in_X0 hown hK hP 0 rfl rfl 0 (by decide) (hts _ q21) (fun _ h9 => h9) rfl dX0_byteAt_60 ?_
      refine lv_bipush (v := 8) hx hb dX0_byteAt_63 (by decide) ?_
      refine lv_iload_n hx hb dX0_byteAt_65 rfl (lv_at hl 1 rfl) ?_
      refine lv_imul hx hb dX0_byteAt_66 ?_
      refine lv_iload_n hx hb dX0_byteAt_67 rfl (lv_at hl 2 rfl) ?_
      refine lv_iadd hx hb dX0_byteAt_68 ?_
      refine w_top (y := nI (8 * pg + ix)) (nn_8 pg ix) ?_
      refine na_iald (f := home) hx hb hK hP 1 0 rfl rfl (j := 8 * pg + ix) (by omega) (by decide) dX0_byteAt_69 ?_
      exact w_iret (S := CFt) (w := wX ad cI cZ) (home, n, lp, lb, tr, ver, tx, sg, sb) hx hb hr hloc hK hP hD hS dX0_byteAt_70 ⟨by
              show _ = if sg pg = true then _ else cf_dv home n lp lb pg ix
              rw [hsg, if_neg (by decide)]
              unfold cf_dv
              rw [hlk]
              rfl, rfl⟩
    · have hin := nn_nleE (by omega) c28
      have hlpi := hlp i
      refine lv_aload_n hx hb dX0_byteAt_31 rfl (lv_at hl 0 rfl) ?_
      refine va_get (D := D) (ci := 0) (v := .ref (ad 2)) (C := RX0) (T := TX0) (N := 9) hx hb hts in_X0 hown hK hP 0 rfl rfl 2 (by decide) (hts _ q23) (fun _ h9 => h9) rfl dX0_byteAt_32 ?_
      refine lv_iload_n hx hb dX0_byteAt_35 rfl (lv_at hl 3 rfl) ?_
      refine na_iald (f := fun k => nI (lp k)) hx hb hK hP 2 0 rfl rfl (j := i) (by omega) (by decide) dX0_byteAt_36 ?_
      refine w_top (y := nI (lp i)) rfl ?_
      refine lv_iload_n hx hb dX0_byteAt_37 rfl (lv_at hl 1 rfl) ?_
      refine lv_icmp_ne (tgt := 53) hx hb dX0_byteAt_38 (by decide) (fun c38 => ?_) (fun c38 => ?_)
      · have hne := nn_ne c38
        refine lv_iinc (v := nI (i + 1)) (lv' := [(3, .int (nI (i + 1))), (0, .ref (ad 0)), (1, .int (nI pg)), (2, .int (nI ix))]) hx hb dX0_byteAt_53 hl (k := 3) rfl (nI_add _ 1) (by decide) rfl (fun ls hl => ?_)
        refine lv_goto (tgt := 23) hx hb dX0_byteAt_56 (by decide) ?_
        obtain ⟨k1, rfl⟩ : ∃ k1, k = k1 + 1 := ⟨k - 1, by omega⟩
        exact ih k1 (by omega) _ _ _ ⟨i + 1, by omega, (by rw [hlk]; show (if lp i = pg then _ else _) = _; rw [if_neg hne]), hP, hD, hS, lv_sub hl [1, 2, 3, 0] rfl⟩
      · have he := nn_eq (by omega) hp c38
        refine lv_aload_n hx hb dX0_byteAt_41 rfl (lv_at hl 0 rfl) ?_
        refine va_get (D := D) (ci := 0) (v := .ref (ad 3)) (C := RX0) (T := TX0) (N := 9) hx hb hts in_X0 hown hK hP 0 rfl rfl 3 (by decide) (hts _ q24) (fun _ h9 => h9) rfl dX0_byteAt_42 ?_
        refine lv_bipush (v := 8) hx hb dX0_byteAt_45 (by decide) ?_
        refine lv_iload_n hx hb dX0_byteAt_47 rfl (lv_at hl 3 rfl) ?_
        refine lv_imul hx hb dX0_byteAt_48 ?_
        refine lv_iload_n hx hb dX0_byteAt_49 rfl (lv_at hl 2 rfl) ?_
        refine lv_iadd hx hb dX0_byteAt_50 ?_
        refine w_top (y := nI (8 * i + ix)) (nn_8 i ix) ?_
        refine na_iald (f := lb) hx hb hK hP 3 0 rfl rfl (j := 8 * i + ix) (by omega) (by decide) dX0_byteAt_51 ?_
        obtain ⟨k1, rfl⟩ : ∃ k1, k = k1 + 1 := ⟨k - 1, by omega⟩
        exact w_iret (S := CFt) (w := wX ad cI cZ) (home, n, lp, lb, tr, ver, tx, sg, sb) hx hb hr hloc hK hP hD hS dX0_byteAt_52 ⟨by
                  show _ = if sg pg = true then _ else cf_dv home n lp lb pg ix
                  rw [hsg, if_neg (by decide)]
                  unfold cf_dv
                  rw [hlk]
                  show _ = if lp i = pg then _ else _
                  rw [if_pos he], rfl⟩
  · have hsg := cf_b_1 c6
    refine lv_aload_n hx hb dX0_byteAt_9 rfl (lv_at hl 0 rfl) ?_
    refine va_get (D := D) (ci := 0) (v := .ref (ad 5)) (C := RX0) (T := TX0) (N := 9) hx hb hts in_X0 hown hK hP 0 rfl rfl 8 (by decide) (hts _ q29) (fun _ h9 => h9) rfl dX0_byteAt_10 ?_
    refine lv_bipush (v := 8) hx hb dX0_byteAt_13 (by decide) ?_
    refine lv_iload_n hx hb dX0_byteAt_15 rfl (lv_at hl 1 rfl) ?_
    refine lv_imul hx hb dX0_byteAt_16 ?_
    refine lv_iload_n hx hb dX0_byteAt_17 rfl (lv_at hl 2 rfl) ?_
    refine lv_iadd hx hb dX0_byteAt_18 ?_
    refine w_top (y := nI (8 * pg + ix)) (nn_8 pg ix) ?_
    refine na_iald (f := sb) hx hb hK hP 5 0 rfl rfl (j := 8 * pg + ix) (by omega) (by decide) dX0_byteAt_19 ?_
    exact w_iret (S := CFt) (w := wX ad cI cZ) (home, n, lp, lb, tr, ver, tx, sg, sb) hx hb hr hloc hK hP hD hS dX0_byteAt_20 ⟨by
          show _ = if sg pg = true then _ else _
          rw [if_pos hsg], rfl⟩
set_option maxHeartbeats 4000000 in
set_option maxRecDepth 100000 in
/-- bringHome(k): the page of the log's place k comes home -/
theorem mX0_bringHome (l : Launch) (D : va_G) (ad : Nat → Nat) (cI cZ : ClassId) (u : CFt) (kk : Nat) (hu : cf_ok u) (hk : kk < 14) : MCv l yX0_bringHome cX0_bringHome 3 ({ frames := 0, cells := 0, slots := 0, locals := 0 }) D (tyW cI cZ) [.ref (ad 0), .int (nI kk)] (wX ad cI cZ u) (fun u1 => u1 = cf_home1 u kk) (wX ad cI cZ) := by
  obtain ⟨home, n, lp, lb, tr, ver, tx, sg, sb⟩ := u
  obtain ⟨hn, hlp⟩ := hu
  unfold MCv
  refine mc_start (Qk := fun A => va_Qv _ (fun u t => bW D (tyW cI cZ) A (wX ad cI cZ u) t) A) (by decide) (Nat.le_of_ble_eq_true rfl) ?_
  intro p e s m below meth c A hx hb hr hml hown hts hloc hnm hK hP hD hA hS ls hl
  have hown : s.vm.findClass RX0 = some m.cls := hown
  have hl : lv_has ls 3 [(0, .ref (ad 0)), (1, .int (nI kk))] := hl
  refine lv_iconst (v := nI 0) hx hb dX0_bringHome_0 (by rfl) ?_
  refine lv_istore_n (lv' := [(2, .int (nI 0)), (0, .ref (ad 0)), (1, .int (nI kk))]) hx hb dX0_bringHome_1 rfl hl (by decide) rfl (fun ls hl => ?_)
  refine w_loop (pc := 2) (fun k H locs ls => ∃ i : Nat, i + k = 8 ∧ va_P D vwCl (wX ad cI cZ (cf_cpy home lb (8 * lp kk) (8 * kk) i, n, lp, lb, tr, ver, tx, sg, sb)) H ∧ va_D A (wX ad cI cZ (cf_cpy home lb (8 * lp kk) (8 * kk) i, n, lp, lb, tr, ver, tx, sg, sb)) ∧ va_S A s.heap H locs ∧ lv_has ls 3 [(0, .ref (ad 0)), (1, .int (nI kk)), (2, .int (nI i))]) (fun k ih H locs ls hI => ?_) 8 _ _ _ ⟨0, (by omega), (by rw [cf_cpy_0]; exact hP), (by rw [cf_cpy_0]; exact hD), hS, lv_sub hl [1, 2, 0] rfl⟩
  obtain ⟨i, hik, hP, hD, hS, hl⟩ := hI
  refine lv_iload_n hx hb dX0_bringHome_2 rfl (lv_at hl 2 rfl) ?_
  refine lv_bipush (v := nI 8) hx hb dX0_bringHome_3 (by rfl) ?_
  refine lv_icmp_ge (tgt := 41) hx hb dX0_bringHome_5 (by decide) (fun c5 => ?_) (fun c5 => ?_)
  · have hin := nn_leE (by omega) (by omega) c5
    have h8 : i = 8 := by omega
    subst h8
    exact w_vret (S := CFt) (w := wX ad cI cZ) (cf_cpy home lb (8 * lp kk) (8 * kk) 8, n, lp, lb, tr, ver, tx, sg, sb) hx hb hr hloc hK hP hD hS dX0_bringHome_41 rfl
  · have hin := nn_nleE (by omega) c5
    have hlpk := hlp kk
    refine lv_aload_n hx hb dX0_bringHome_8 rfl (lv_at hl 0 rfl) ?_
    refine va_get (D := D) (ci := 0) (v := .ref (ad 1)) (C := RX0) (T := TX0) (N := 9) hx hb hts in_X0 hown hK hP 0 rfl rfl 0 (by decide) (hts _ q21) (fun _ h9 => h9) rfl dX0_bringHome_9 ?_
    refine lv_bipush (v := 8) hx hb dX0_bringHome_12 (by decide) ?_
    refine lv_aload_n hx hb dX0_bringHome_14 rfl (lv_at hl 0 rfl) ?_
    refine va_get (D := D) (ci := 0) (v := .ref (ad 2)) (C := RX0) (T := TX0) (N := 9) hx hb hts in_X0 hown hK hP 0 rfl rfl 2 (by decide) (hts _ q23) (fun _ h9 => h9) rfl dX0_bringHome_15 ?_
    refine lv_iload_n hx hb dX0_bringHome_18 rfl (lv_at hl 1 rfl) ?_
    refine na_iald (f := fun k => nI (lp k)) hx hb hK hP 2 0 rfl rfl (j := kk) (by omega) (by decide) dX0_bringHome_19 ?_
    refine w_top (y := nI (lp kk)) rfl ?_
    refine lv_imul hx hb dX0_bringHome_20 ?_
    refine lv_iload_n hx hb dX0_bringHome_21 rfl (lv_at hl 2 rfl) ?_
    refine lv_iadd hx hb dX0_bringHome_22 ?_
    refine w_top (y := nI (8 * lp kk + i)) (nn_8 (lp kk) i) ?_
    refine lv_aload_n hx hb dX0_bringHome_23 rfl (lv_at hl 0 rfl) ?_
    refine va_get (D := D) (ci := 0) (v := .ref (ad 3)) (C := RX0) (T := TX0) (N := 9) hx hb hts in_X0 hown hK hP 0 rfl rfl 3 (by decide) (hts _ q24) (fun _ h9 => h9) rfl dX0_bringHome_24 ?_
    refine lv_bipush (v := 8) hx hb dX0_bringHome_27 (by decide) ?_
    refine lv_iload_n hx hb dX0_bringHome_29 rfl (lv_at hl 1 rfl) ?_
    refine lv_imul hx hb dX0_bringHome_30 ?_
    refine lv_iload_n hx hb dX0_bringHome_31 rfl (lv_at hl 2 rfl) ?_
    refine lv_iadd hx hb dX0_bringHome_32 ?_
    refine w_top (y := nI (8 * kk + i)) (nn_8 kk i) ?_
    refine na_iald (f := lb) hx hb hK hP 3 0 rfl rfl (j := 8 * kk + i) (by omega) (by decide) dX0_bringHome_33 ?_
    refine na_iast (f := cf_cpy home lb (8 * lp kk) (8 * kk) i) (g := cf_cpy home lb (8 * lp kk) (8 * kk) (i + 1)) (x := (lb (8 * kk + i))) hx hb hK hP hD hS 1 0 rfl rfl (j := 8 * lp kk + i) (by omega) (by decide) (cf_cpy_s rfl rfl) dX0_bringHome_34 (fun H locs hP hD hS => ?_)
    have hP : va_P D vwCl (wX ad cI cZ (cf_cpy home lb (8 * lp kk) (8 * kk) (i + 1), n, lp, lb, tr, ver, tx, sg, sb)) H := hP
    have hD : va_D A (wX ad cI cZ (cf_cpy home lb (8 * lp kk) (8 * kk) (i + 1), n, lp, lb, tr, ver, tx, sg, sb)) := hD
    refine lv_iinc (v := nI (i + 1)) (lv' := [(2, .int (nI (i + 1))), (0, .ref (ad 0)), (1, .int (nI kk))]) hx hb dX0_bringHome_35 hl (k := 2) rfl (nI_add _ 1) (by decide) rfl (fun ls hl => ?_)
    refine lv_goto (tgt := 2) hx hb dX0_bringHome_38 (by decide) ?_
    exact ih (k - 1) (by omega) _ _ _ ⟨i + 1, by omega, hP, hD, hS, lv_sub hl [1, 2, 0] rfl⟩
set_option maxHeartbeats 4000000 in
set_option maxRecDepth 100000 in
/-- unstage(): no page is staged -/
theorem mX0_unstage (l : Launch) (D : va_G) (ad : Nat → Nat) (cI cZ : ClassId) (u : CFt) : MCv l yX0_unstage cX0_unstage 2 ({ frames := 0, cells := 0, slots := 0, locals := 0 }) D (tyW cI cZ) [.ref (ad 0)] (wX ad cI cZ u) (fun u1 => u1 = cf_unstage u) (wX ad cI cZ) := by
  obtain ⟨home, n, lp, lb, tr, ver, tx, sg, sb⟩ := u
  unfold MCv
  refine mc_start (Qk := fun A => va_Qv _ (fun u t => bW D (tyW cI cZ) A (wX ad cI cZ u) t) A) (by decide) (Nat.le_of_ble_eq_true rfl) ?_
  intro p e s m below meth c A hx hb hr hml hown hts hloc hnm hK hP hD hA hS ls hl
  have hown : s.vm.findClass RX0 = some m.cls := hown
  have hl : lv_has ls 2 [(0, .ref (ad 0))] := hl
  refine lv_iconst (v := nI 0) hx hb dX0_unstage_0 (by rfl) ?_
  refine lv_istore_n (lv' := [(1, .int (nI 0)), (0, .ref (ad 0))]) hx hb dX0_unstage_1 rfl hl (by decide) rfl (fun ls hl => ?_)
  refine w_loop (pc := 2) (fun k H locs ls => ∃ i : Nat, i + k = 14 ∧ va_P D vwCl (wX ad cI cZ (home, n, lp, lb, tr, ver, tx, cf_cpy sg (fun _ => false) 0 0 i, sb)) H ∧ va_D A (wX ad cI cZ (home, n, lp, lb, tr, ver, tx, cf_cpy sg (fun _ => false) 0 0 i, sb)) ∧ va_S A s.heap H locs ∧ lv_has ls 2 [(0, .ref (ad 0)), (1, .int (nI i))]) (fun k ih H locs ls hI => ?_) 14 _ _ _ ⟨0, (by omega), (by rw [cf_cpy_0]; exact hP), (by rw [cf_cpy_0]; exact hD), hS, lv_sub hl [1, 0] rfl⟩
  obtain ⟨i, hik, hP, hD, hS, hl⟩ := hI
  refine lv_iload_n hx hb dX0_unstage_2 rfl (lv_at hl 1 rfl) ?_
  refine lv_bipush (v := nI 14) hx hb dX0_unstage_3 (by rfl) ?_
  refine lv_icmp_ge (tgt := 21) hx hb dX0_unstage_5 (by decide) (fun c5 => ?_) (fun c5 => ?_)
  · have hin := nn_leE (by omega) (by omega) c5
    have h8 : i = 14 := by omega
    subst h8
    exact w_vret (S := CFt) (w := wX ad cI cZ) (home, n, lp, lb, tr, ver, tx, cf_cpy sg (fun _ => false) 0 0 14, sb) hx hb hr hloc hK hP hD hS dX0_unstage_21 rfl
  · have hin := nn_nleE (by omega) c5
    refine lv_aload_n hx hb dX0_unstage_8 rfl (lv_at hl 0 rfl) ?_
    refine va_get (D := D) (ci := 0) (v := .ref (ad 4)) (C := RX0) (T := TX0) (N := 9) hx hb hts in_X0 hown hK hP 0 rfl rfl 7 (by decide) (hts _ q28) (fun _ h9 => h9) rfl dX0_unstage_9 ?_
    refine lv_iload_n hx hb dX0_unstage_12 rfl (lv_at hl 1 rfl) ?_
    refine lv_iconst (v := cf_b false) hx hb dX0_unstage_13 (by rfl) ?_
    refine na_zast (f := cf_cpy sg (fun _ => false) 0 0 i) (g := cf_cpy sg (fun _ => false) 0 0 (i + 1)) (x := false) hx hb hK hP hD hS 4 1 rfl rfl (j := i) (by omega) (by decide) (cf_cpy_s (by omega) rfl) dX0_unstage_14 (fun H locs hP hD hS => ?_)
    have hP : va_P D vwCl (wX ad cI cZ (home, n, lp, lb, tr, ver, tx, cf_cpy sg (fun _ => false) 0 0 (i + 1), sb)) H := hP
    have hD : va_D A (wX ad cI cZ (home, n, lp, lb, tr, ver, tx, cf_cpy sg (fun _ => false) 0 0 (i + 1), sb)) := hD
    refine lv_iinc (v := nI (i + 1)) (lv' := [(1, .int (nI (i + 1))), (0, .ref (ad 0))]) hx hb dX0_unstage_15 hl (k := 1) rfl (nI_add _ 1) (by decide) rfl (fun ls hl => ?_)
    refine lv_goto (tgt := 2) hx hb dX0_unstage_18 (by decide) ?_
    exact ih (k - 1) (by omega) _ _ _ ⟨i + 1, by omega, hP, hD, hS, lv_sub hl [1, 0] rfl⟩
end
section
/-! CONTRACTS of CardFiles: stage, log, start -/
theorem cf_wl_le (lp : Nat → Nat) (lb : Nat → Int32) (sg : Nat → Bool) (sb : Nat → Int32) : ∀ i, (cf_wl lp lb sg sb i).1 ≤ i := by
  intro i
  induction i with
  | zero => exact Nat.le_refl 0
  | succ i ih =>
    show (if sg i = true then _ else _ : Nat × (Nat → Nat) × (Nat → Int32)).1 ≤ _
    by_cases h : sg i = true
    · rw [if_pos h]
      exact Nat.succ_le_succ ih
    · rw [if_neg h]
      exact Nat.le_succ_of_le ih
theorem cf_wl_n {lp : Nat → Nat} {lb : Nat → Int32} {sg : Nat → Bool} {sb : Nat → Int32} {i : Nat} (h : sg i = false) : cf_wl lp lb sg sb (i + 1) = cf_wl lp lb sg sb i := by
  show (if sg i = true then _ else _) = _
  rw [h]
  exact if_neg (by decide)
theorem cf_wl_p {lp : Nat → Nat} {lb : Nat → Int32} {sg : Nat → Bool} {sb : Nat → Int32} {i : Nat} (h : sg i = true) : cf_wl lp lb sg sb (i + 1) = ((cf_wl lp lb sg sb i).1 + 1, cf_up (cf_wl lp lb sg sb i).2.1 (cf_wl lp lb sg sb i).1 i, cf_cpy (cf_wl lp lb sg sb i).2.2 sb (8 * (cf_wl lp lb sg sb i).1) (8 * i) 8) := by
  show (if sg i = true then _ else _) = _
  exact if_pos h
set_option maxHeartbeats 4000000 in
set_option maxRecDepth 100000 in
/-- stage(page): a copy of the page is staged -/
theorem mX0_stage (l : Launch) (D : va_G) (ad : Nat → Nat) (cI cZ : ClassId) (u : CFt) (pg : Nat) (hu : cf_ok u) (hp : pg < 14) : MCv l yX0_stage cX0_stage 3 ({ frames := 1, cells := 0, slots := 0, locals := 23 }) D (tyW cI cZ) [.ref (ad 0), .int (nI pg)] (wX ad cI cZ u) (fun u1 => u1 = cf_stage u pg) (wX ad cI cZ) := by
  obtain ⟨home, n, lp, lb, tr, ver, tx, sg, sb⟩ := u
  obtain ⟨hn, hlp⟩ := hu
  unfold MCv
  refine mc_start (Qk := fun A => va_Qv _ (fun u t => bW D (tyW cI cZ) A (wX ad cI cZ u) t) A) (by decide) (Nat.le_of_ble_eq_true rfl) ?_
  intro p e s m below meth c A hx hb hr hml hown hts hloc hnm hK hP hD hA hS ls hl
  have hown : s.vm.findClass RX0 = some m.cls := hown
  have hl : lv_has ls 3 [(0, .ref (ad 0)), (1, .int (nI pg))] := hl
  refine lv_aload_n hx hb dX0_stage_0 rfl (lv_at hl 0 rfl) ?_
  refine va_get (D := D) (ci := 0) (v := .ref (ad 4)) (C := RX0) (T := TX0) (N := 9) hx hb hts in_X0 hown hK hP 0 rfl rfl 7 (by decide) (hts _ q28) (fun _ h9 => h9) rfl dX0_stage_1 ?_
  refine lv_iload_n hx hb dX0_stage_4 rfl (lv_at hl 1 rfl) ?_
  refine na_zald (g := sg) hx hb hK hP 4 1 rfl rfl (j := pg) hp (by decide) dX0_stage_5 ?_
  refine lv_if_eq (tgt := 10) hx hb dX0_stage_6 (by decide) (fun c6 => ?_) (fun c6 => ?_)
  · have hsg := cf_b_0 c6
    refine lv_iconst (v := nI 0) hx hb dX0_stage_10 (by rfl) ?_
    refine lv_istore_n (lv' := [(2, .int (nI 0)), (0, .ref (ad 0)), (1, .int (nI pg))]) hx hb dX0_stage_11 rfl hl (by decide) rfl (fun ls hl => ?_)
    refine w_loop (pc := 12) (fun k H locs ls => ∃ i : Nat, i + k = 8 ∧ va_P D vwCl (wX ad cI cZ (home, n, lp, lb, tr, ver, tx, sg, cf_cpy sb (fun i => cf_dv home n lp lb pg i) (8 * pg) 0 i)) H ∧ va_D A (wX ad cI cZ (home, n, lp, lb, tr, ver, tx, sg, cf_cpy sb (fun i => cf_dv home n lp lb pg i) (8 * pg) 0 i)) ∧ va_S A s.heap H locs ∧ lv_has ls 3 [(0, .ref (ad 0)), (1, .int (nI pg)), (2, .int (nI i))]) (fun k ih H locs ls hI => ?_) 8 _ _ _ ⟨0, (by omega), (by rw [cf_cpy_0]; exact hP), (by rw [cf_cpy_0]; exact hD), hS, lv_sub hl [1, 2, 0] rfl⟩
    obtain ⟨i, hik, hP, hD, hS, hl⟩ := hI
    refine lv_iload_n hx hb dX0_stage_12 rfl (lv_at hl 2 rfl) ?_
    refine lv_bipush (v := nI 8) hx hb dX0_stage_13 (by rfl) ?_
    refine lv_icmp_ge (tgt := 41) hx hb dX0_stage_15 (by decide) (fun c15 => ?_) (fun c15 => ?_)
    · have hin := nn_leE (by omega) (by omega) c15
      have h8 : i = 8 := by omega
      subst h8
      refine lv_aload_n hx hb dX0_stage_41 rfl (lv_at hl 0 rfl) ?_
      refine va_get (D := D) (ci := 0) (v := .ref (ad 4)) (C := RX0) (T := TX0) (N := 9) hx hb hts in_X0 hown hK hP 0 rfl rfl 7 (by decide) (hts _ q28) (fun _ h9 => h9) rfl dX0_stage_42 ?_
      refine lv_iload_n hx hb dX0_stage_45 rfl (lv_at hl 1 rfl) ?_
      refine lv_iconst (v := cf_b true) hx hb dX0_stage_46 (by rfl) ?_
      refine na_zast (f := sg) (g := cf_up sg pg true) (x := true) hx hb hK hP hD hS 4 1 rfl rfl (j := pg) hp (by decide) rfl dX0_stage_47 (fun H locs hP hD hS => ?_)
      have hP : va_P D vwCl (wX ad cI cZ (home, n, lp, lb, tr, ver, tx, cf_up sg pg true, cf_cpy sb (fun i => cf_dv home n lp lb pg i) (8 * pg) 0 8)) H := hP
      have hD : va_D A (wX ad cI cZ (home, n, lp, lb, tr, ver, tx, cf_up sg pg true, cf_cpy sb (fun i => cf_dv home n lp lb pg i) (8 * pg) 0 8)) := hD
      exact w_vret (S := CFt) (w := wX ad cI cZ) (home, n, lp, lb, tr, ver, tx, cf_up sg pg true, cf_cpy sb (fun i => cf_dv home n lp lb pg i) (8 * pg) 0 8) hx hb hr hloc hK hP hD hS dX0_stage_48 (by
              show _ = if sg pg = true then _ else _
              rw [hsg, if_neg (by decide)])
    · have hin := nn_nleE (by omega) c15
      refine lv_aload_n hx hb dX0_stage_18 rfl (lv_at hl 0 rfl) ?_
      refine va_get (D := D) (ci := 0) (v := .ref (ad 5)) (C := RX0) (T := TX0) (N := 9) hx hb hts in_X0 hown hK hP 0 rfl rfl 8 (by decide) (hts _ q29) (fun _ h9 => h9) rfl dX0_stage_19 ?_
      refine lv_bipush (v := 8) hx hb dX0_stage_22 (by decide) ?_
      refine lv_iload_n hx hb dX0_stage_24 rfl (lv_at hl 1 rfl) ?_
      refine lv_imul hx hb dX0_stage_25 ?_
      refine lv_iload_n hx hb dX0_stage_26 rfl (lv_at hl 2 rfl) ?_
      refine lv_iadd hx hb dX0_stage_27 ?_
      refine w_top (y := nI (8 * pg + i)) (nn_8 pg i) ?_
      refine lv_aload_n hx hb dX0_stage_28 rfl (lv_at hl 0 rfl) ?_
      refine lv_iload_n hx hb dX0_stage_29 rfl (lv_at hl 1 rfl) ?_
      refine lv_iload_n hx hb dX0_stage_30 rfl (lv_at hl 2 rfl) ?_
      refine w_calli (wr := []) (mX0_byteAt l D ad cI cZ (home, n, lp, lb, tr, ver, tx, sg, cf_cpy sb (fun i => cf_dv home n lp lb pg i) (8 * pg) 0 i) pg i ⟨hn, hlp⟩ hp (by omega)) [0, 1, 2, 3, 4, 5] [] 0 ⟨hx, hb, hml, hown, hts⟩ (cwV 2 hts (lw_V q59 q61 qs0 q11 q62) rfl rfl rfl (by decide +kernel) ⟨Nat.le_of_ble_eq_true rfl, Nat.le_of_ble_eq_true rfl⟩) hP hD hK hS hA rfl rfl rfl rfl (by decide) rfl rfl rfl hl.1 rfl (Nat.le_of_ble_eq_true rfl) dX0_stage_31 ⟨Nat.zero_le _, Nat.zero_le _⟩ (fun r u H locs hw hP hD hS => ?_)
      obtain ⟨rfl, rfl⟩ := hw
      have hP : va_P D vwCl (wX ad cI cZ (home, n, lp, lb, tr, ver, tx, sg, cf_cpy sb (fun i => cf_dv home n lp lb pg i) (8 * pg) 0 i)) H := hP
      have hD : va_D A (wX ad cI cZ (home, n, lp, lb, tr, ver, tx, sg, cf_cpy sb (fun i => cf_dv home n lp lb pg i) (8 * pg) 0 i)) := hD
      refine w_top (y := cf_dv home n lp lb pg i) (by show (if sg pg = true then _ else _) = _; rw [hsg, if_neg (by decide)]) ?_
      refine na_iast (f := cf_cpy sb (fun i => cf_dv home n lp lb pg i) (8 * pg) 0 i) (g := cf_cpy sb (fun i => cf_dv home n lp lb pg i) (8 * pg) 0 (i + 1)) (x := (cf_dv home n lp lb pg i)) hx hb hK hP hD hS 5 0 rfl rfl (j := 8 * pg + i) (by omega) (by decide) (cf_cpy_s rfl (by rw [Nat.zero_add])) dX0_stage_34 (fun H locs hP hD hS => ?_)
      have hP : va_P D vwCl (wX ad cI cZ (home, n, lp, lb, tr, ver, tx, sg, cf_cpy sb (fun i => cf_dv home n lp lb pg i) (8 * pg) 0 (i + 1))) H := hP
      have hD : va_D A (wX ad cI cZ (home, n, lp, lb, tr, ver, tx, sg, cf_cpy sb (fun i => cf_dv home n lp lb pg i) (8 * pg) 0 (i + 1))) := hD
      refine lv_iinc (v := nI (i + 1)) (lv' := [(2, .int (nI (i + 1))), (0, .ref (ad 0)), (1, .int (nI pg))]) hx hb dX0_stage_35 hl (k := 2) rfl (nI_add _ 1) (by decide) rfl (fun ls hl => ?_)
      refine lv_goto (tgt := 12) hx hb dX0_stage_38 (by decide) ?_
      exact ih (k - 1) (by omega) _ _ _ ⟨i + 1, by omega, hP, hD, hS, lv_sub hl [1, 2, 0] rfl⟩
  · have hsg := cf_b_1 c6
    exact w_vret (S := CFt) (w := wX ad cI cZ) (home, n, lp, lb, tr, ver, tx, sg, sb) hx hb hr hloc hK hP hD hS dX0_stage_9 (by
          show _ = if sg pg = true then _ else _
          rw [if_pos hsg])
set_option maxHeartbeats 4000000 in
set_option maxRecDepth 100000 in
/-- bringAllHome(): the whole log comes home -/
theorem mX0_bringAllHome (l : Launch) (D : va_G) (ad : Nat → Nat) (cI cZ : ClassId) (u : CFt) (hu : cf_ok u) : MCv l yX0_bringAllHome cX0_bringAllHome 2 ({ frames := 1, cells := 0, slots := 0, locals := 22 }) D (tyW cI cZ) [.ref (ad 0)] (wX ad cI cZ u) (fun u1 => u1 = cf_homeAll u) (wX ad cI cZ) := by
  obtain ⟨home, n, lp, lb, tr, ver, tx, sg, sb⟩ := u
  obtain ⟨hn, hlp⟩ := hu
  unfold MCv
  refine mc_start (Qk := fun A => va_Qv _ (fun u t => bW D (tyW cI cZ) A (wX ad cI cZ u) t) A) (by decide) (Nat.le_of_ble_eq_true rfl) ?_
  intro p e s m below meth c A hx hb hr hml hown hts hloc hnm hK hP hD hA hS ls hl
  have hown : s.vm.findClass RX0 = some m.cls := hown
  have hl : lv_has ls 2 [(0, .ref (ad 0))] := hl
  refine lv_iconst (v := nI 0) hx hb dX0_bringAllHome_0 (by rfl) ?_
  refine lv_istore_n (lv' := [(1, .int (nI 0)), (0, .ref (ad 0))]) hx hb dX0_bringAllHome_1 rfl hl (by decide) rfl (fun ls hl => ?_)
  refine w_loop (pc := 2) (fun k H locs ls => ∃ i : Nat, i + k = n ∧ va_P D vwCl (wX ad cI cZ (cf_hall home lp lb i, n, lp, lb, tr, ver, tx, sg, sb)) H ∧ va_D A (wX ad cI cZ (cf_hall home lp lb i, n, lp, lb, tr, ver, tx, sg, sb)) ∧ va_S A s.heap H locs ∧ lv_has ls 2 [(0, .ref (ad 0)), (1, .int (nI i))]) (fun k ih H locs ls hI => ?_) n _ _ _ ⟨0, (by omega), hP, hD, hS, lv_sub hl [1, 0] rfl⟩
  obtain ⟨i, hik, hP, hD, hS, hl⟩ := hI
  refine lv_iload_n hx hb dX0_bringAllHome_2 rfl (lv_at hl 1 rfl) ?_
  refine lv_aload_n hx hb dX0_bringAllHome_3 rfl (lv_at hl 0 rfl) ?_
  refine va_get (D := D) (ci := 0) (v := .int (nI n)) (C := RX0) (T := TX0) (N := 9) hx hb hts in_X0 hown hK hP 0 rfl rfl 1 (by decide) (hts _ q22) (fun _ h9 => h9) rfl dX0_bringAllHome_4 ?_
  refine lv_icmp_ge (tgt := 21) hx hb dX0_bringAllHome_7 (by decide) (fun c7 => ?_) (fun c7 => ?_)
  · have hin := nn_leE (by omega) (by omega) c7
    rw [show i = n by omega] at hP hD
    refine lv_aload_n hx hb dX0_bringAllHome_21 rfl (lv_at hl 0 rfl) ?_
    refine lv_iconst (v := nI 0) hx hb dX0_bringAllHome_22 (by rfl) ?_
    refine va_put (D := D) (ci := 0) (v := .int (nI 0)) (ty := .int) (C := RX0) (T := TX0) (N := 9) hx hb hts in_X0 tyX0 tyX0_ok nmX0 hown hK hP hD hS 0 rfl rfl 1 (by decide) (hts _ q22) (fun _ h9 => h9) rfl (by decide +kernel) rfl rfl (Nat.le_of_ble_eq_true rfl) dX0_bringAllHome_23 (fun H locs hP hD hS => ?_)
    have hP : va_P D vwCl (wX ad cI cZ (cf_hall home lp lb n, 0, lp, lb, tr, ver, tx, sg, sb)) H := hP
    have hD : va_D A (wX ad cI cZ (cf_hall home lp lb n, 0, lp, lb, tr, ver, tx, sg, sb)) := hD
    exact w_vret (S := CFt) (w := wX ad cI cZ) (cf_hall home lp lb n, 0, lp, lb, tr, ver, tx, sg, sb) hx hb hr hloc hK hP hD hS dX0_bringAllHome_26 rfl
  · have hin := nn_nleE (by omega) c7
    refine lv_aload_n hx hb dX0_bringAllHome_10 rfl (lv_at hl 0 rfl) ?_
    refine lv_iload_n hx hb dX0_bringAllHome_11 rfl (lv_at hl 1 rfl) ?_
    refine w_callv (wr := []) (mX0_bringHome l D ad cI cZ (cf_hall home lp lb i, n, lp, lb, tr, ver, tx, sg, sb) i ⟨hn, hlp⟩ (by omega)) [0, 1, 2, 3, 4, 5] [] 0 ⟨hx, hb, hml, hown, hts⟩ (cwV 1 hts (lw_V q75 q77 qs4 q11 q78) rfl rfl rfl (by decide +kernel) ⟨Nat.le_of_ble_eq_true rfl, Nat.le_of_ble_eq_true rfl⟩) hP hD hK hS hA rfl rfl rfl rfl (by decide) rfl rfl rfl hl.1 rfl (Nat.le_of_ble_eq_true rfl) dX0_bringAllHome_12 ⟨Nat.zero_le _, Nat.zero_le _⟩ (fun u H locs hw hP hD hS => ?_)
    subst hw
    have hP : va_P D vwCl (wX ad cI cZ (cf_hall home lp lb (i + 1), n, lp, lb, tr, ver, tx, sg, sb)) H := hP
    have hD : va_D A (wX ad cI cZ (cf_hall home lp lb (i + 1), n, lp, lb, tr, ver, tx, sg, sb)) := hD
    refine lv_iinc (v := nI (i + 1)) (lv' := [(1, .int (nI (i + 1))), (0, .ref (ad 0))]) hx hb dX0_bringAllHome_15 hl (k := 1) rfl (nI_add _ 1) (by decide) rfl (fun ls hl => ?_)
    refine lv_goto (tgt := 2) hx hb dX0_bringAllHome_18 (by decide) ?_
    exact ih (k - 1) (by omega) _ _ _ ⟨i + 1, by omega, hP, hD, hS, lv_sub hl [1, 0] rfl⟩
set_option maxHeartbeats 4000000 in
set_option maxRecDepth 100000 in
/-- writeLog(): the log before it comes home, then the staged pages are the log -/
theorem mX0_writeLog (l : Launch) (D : va_G) (ad : Nat → Nat) (cI cZ : ClassId) (u : CFt) (hu : cf_ok u) : MCv l yX0_writeLog cX0_writeLog 4 ({ frames := 2, cells := 0, slots := 0, locals := 43 }) D (tyW cI cZ) [.ref (ad 0)] (wX ad cI cZ u) (fun u1 => u1 = cf_write u) (wX ad cI cZ) := by
  obtain ⟨home, n, lp, lb, tr, ver, tx, sg, sb⟩ := u
  obtain ⟨hn, hlp⟩ := hu
  unfold MCv
  refine mc_start (Qk := fun A => va_Qv _ (fun u t => bW D (tyW cI cZ) A (wX ad cI cZ u) t) A) (by decide) (Nat.le_of_ble_eq_true rfl) ?_
  intro p e s m below meth c A hx hb hr hml hown hts hloc hnm hK hP hD hA hS ls hl
  have hown : s.vm.findClass RX0 = some m.cls := hown
  have hl : lv_has ls 4 [(0, .ref (ad 0))] := hl
  refine lv_aload_n hx hb dX0_writeLog_0 rfl (lv_at hl 0 rfl) ?_
  refine w_callv (wr := []) (mX0_bringAllHome l D ad cI cZ (home, n, lp, lb, tr, ver, tx, sg, sb) ⟨hn, hlp⟩) [0, 1, 2, 3, 4, 5] [] 0 ⟨hx, hb, hml, hown, hts⟩ (cwV 0 hts (lw_V q71 q73 qs3 q11 q74) rfl rfl rfl (by decide +kernel) ⟨Nat.le_of_ble_eq_true rfl, Nat.le_of_ble_eq_true rfl⟩) hP hD hK hS hA rfl rfl rfl rfl (by decide) rfl rfl rfl hl.1 rfl (Nat.le_of_ble_eq_true rfl) dX0_writeLog_1 ⟨Nat.zero_le _, Nat.zero_le _⟩ (fun u H locs hw hP hD hS => ?_)
  subst hw
  have hP : va_P D vwCl (wX ad cI cZ (cf_hall home lp lb n, 0, lp, lb, tr, ver, tx, sg, sb)) H := hP
  have hD : va_D A (wX ad cI cZ (cf_hall home lp lb n, 0, lp, lb, tr, ver, tx, sg, sb)) := hD
  refine lv_iconst (v := nI 0) hx hb dX0_writeLog_4 (by rfl) ?_
  refine lv_istore_n (lv' := [(1, .int (nI 0)), (0, .ref (ad 0))]) hx hb dX0_writeLog_5 rfl hl (by decide) rfl (fun ls hl => ?_)
  refine lv_iconst (v := nI 0) hx hb dX0_writeLog_6 (by rfl) ?_
  refine lv_istore_n (lv' := [(2, .int (nI 0)), (1, .int (nI 0)), (0, .ref (ad 0))]) hx hb dX0_writeLog_7 rfl hl (by decide) rfl (fun ls hl => ?_)
  refine w_loop (pc := 8) (fun k H locs ls => ∃ i : Nat, i + k = 14 ∧ va_P D vwCl (wX ad cI cZ (cf_hall home lp lb n, 0, (cf_wl lp lb sg sb i).2.1, (cf_wl lp lb sg sb i).2.2, tr, ver, tx, sg, sb)) H ∧ va_D A (wX ad cI cZ (cf_hall home lp lb n, 0, (cf_wl lp lb sg sb i).2.1, (cf_wl lp lb sg sb i).2.2, tr, ver, tx, sg, sb)) ∧ va_S A s.heap H locs ∧ lv_has ls 4 [(0, .ref (ad 0)), (1, .int (nI (cf_wl lp lb sg sb i).1)), (2, .int (nI i))]) (fun k ih H locs ls hI => ?_) 14 _ _ _ ⟨0, (by omega), hP, hD, hS, lv_sub hl [2, 1, 0] rfl⟩
  obtain ⟨i, hik, hP, hD, hS, hl⟩ := hI
  have hwl := cf_wl_le lp lb sg sb i
  refine lv_iload_n hx hb dX0_writeLog_8 rfl (lv_at hl 2 rfl) ?_
  refine lv_bipush (v := nI 14) hx hb dX0_writeLog_9 (by rfl) ?_
  refine lv_icmp_ge (tgt := 75) hx hb dX0_writeLog_11 (by decide) (fun c11 => ?_) (fun c11 => ?_)
  · have hin := nn_leE (by omega) (by omega) c11
    have h8 : i = 14 := by omega
    subst h8
    refine lv_aload_n hx hb dX0_writeLog_75 rfl (lv_at hl 0 rfl) ?_
    refine lv_iload_n hx hb dX0_writeLog_76 rfl (lv_at hl 1 rfl) ?_
    refine va_put (D := D) (ci := 0) (v := .int (nI (cf_wl lp lb sg sb 14).1)) (ty := .int) (C := RX0) (T := TX0) (N := 9) hx hb hts in_X0 tyX0 tyX0_ok nmX0 hown hK hP hD hS 0 rfl rfl 1 (by decide) (hts _ q22) (fun _ h9 => h9) rfl (by decide +kernel) rfl rfl (Nat.le_of_ble_eq_true rfl) dX0_writeLog_77 (fun H locs hP hD hS => ?_)
    have hP : va_P D vwCl (wX ad cI cZ (cf_hall home lp lb n, (cf_wl lp lb sg sb 14).1, (cf_wl lp lb sg sb 14).2.1, (cf_wl lp lb sg sb 14).2.2, tr, ver, tx, sg, sb)) H := hP
    have hD : va_D A (wX ad cI cZ (cf_hall home lp lb n, (cf_wl lp lb sg sb 14).1, (cf_wl lp lb sg sb 14).2.1, (cf_wl lp lb sg sb 14).2.2, tr, ver, tx, sg, sb)) := hD
    refine lv_aload_n hx hb dX0_writeLog_80 rfl (lv_at hl 0 rfl) ?_
    refine w_callv (wr := []) (mX0_unstage l D ad cI cZ (cf_hall home lp lb n, (cf_wl lp lb sg sb 14).1, (cf_wl lp lb sg sb 14).2.1, (cf_wl lp lb sg sb 14).2.2, tr, ver, tx, sg, sb)) [0, 1, 2, 3, 4, 5] [] 0 ⟨hx, hb, hml, hown, hts⟩ (cwV 0 hts (lw_V q79 q81 qs5 q11 q82) rfl rfl rfl (by decide +kernel) ⟨Nat.le_of_ble_eq_true rfl, Nat.le_of_ble_eq_true rfl⟩) hP hD hK hS hA rfl rfl rfl rfl (by decide) rfl rfl rfl hl.1 rfl (Nat.le_of_ble_eq_true rfl) dX0_writeLog_81 ⟨Nat.zero_le _, Nat.zero_le _⟩ (fun u H locs hw hP hD hS => ?_)
    subst hw
    have hP : va_P D vwCl (wX ad cI cZ (cf_hall home lp lb n, (cf_wl lp lb sg sb 14).1, (cf_wl lp lb sg sb 14).2.1, (cf_wl lp lb sg sb 14).2.2, tr, ver, tx, cf_unst sg, sb)) H := hP
    have hD : va_D A (wX ad cI cZ (cf_hall home lp lb n, (cf_wl lp lb sg sb 14).1, (cf_wl lp lb sg sb 14).2.1, (cf_wl lp lb sg sb 14).2.2, tr, ver, tx, cf_unst sg, sb)) := hD
    exact w_vret (S := CFt) (w := wX ad cI cZ) (cf_hall home lp lb n, (cf_wl lp lb sg sb 14).1, (cf_wl lp lb sg sb 14).2.1, (cf_wl lp lb sg sb 14).2.2, tr, ver, tx, cf_unst sg, sb) hx hb hr hloc hK hP hD hS dX0_writeLog_84 rfl
  · have hin := nn_nleE (by omega) c11
    refine lv_aload_n hx hb dX0_writeLog_14 rfl (lv_at hl 0 rfl) ?_
    refine va_get (D := D) (ci := 0) (v := .ref (ad 4)) (C := RX0) (T := TX0) (N := 9) hx hb hts in_X0 hown hK hP 0 rfl rfl 7 (by decide) (hts _ q28) (fun _ h9 => h9) rfl dX0_writeLog_15 ?_
    refine lv_iload_n hx hb dX0_writeLog_18 rfl (lv_at hl 2 rfl) ?_
    refine na_zald (g := sg) hx hb hK hP 4 1 rfl rfl (j := i) (by omega) (by decide) dX0_writeLog_19 ?_
    refine lv_if_eq (tgt := 69) hx hb dX0_writeLog_20 (by decide) (fun c20 => ?_) (fun c20 => ?_)
    · have hsg := cf_b_0 c20
      refine lv_iinc (v := nI (i + 1)) (lv' := [(2, .int (nI (i + 1))), (0, .ref (ad 0)), (1, .int (nI (cf_wl lp lb sg sb i).1))]) hx hb dX0_writeLog_69 hl (k := 2) rfl (nI_add _ 1) (by decide) rfl (fun ls hl => ?_)
      refine lv_goto (tgt := 8) hx hb dX0_writeLog_72 (by decide) ?_
      exact ih (k - 1) (by omega) _ _ _ ⟨i + 1, by omega, (by rw [cf_wl_n hsg]; exact hP), (by rw [cf_wl_n hsg]; exact hD), hS, (by rw [cf_wl_n hsg]; exact lv_sub hl [1, 2, 0] rfl)⟩
    · have hsg := cf_b_1 c20
      refine lv_aload_n hx hb dX0_writeLog_23 rfl (lv_at hl 0 rfl) ?_
      refine va_get (D := D) (ci := 0) (v := .ref (ad 2)) (C := RX0) (T := TX0) (N := 9) hx hb hts in_X0 hown hK hP 0 rfl rfl 2 (by decide) (hts _ q23) (fun _ h9 => h9) rfl dX0_writeLog_24 ?_
      refine lv_iload_n hx hb dX0_writeLog_27 rfl (lv_at hl 1 rfl) ?_
      refine lv_iload_n hx hb dX0_writeLog_28 rfl (lv_at hl 2 rfl) ?_
      refine na_nast (f := (cf_wl lp lb sg sb i).2.1) (g := cf_up ((cf_wl lp lb sg sb i).2.1) ((cf_wl lp lb sg sb i).1) i) (x := i) hx hb hK hP hD hS 2 0 rfl rfl (j := (cf_wl lp lb sg sb i).1) (by omega) (by decide) rfl dX0_writeLog_29 (fun H locs hP hD hS => ?_)
      have hP : va_P D vwCl (wX ad cI cZ (cf_hall home lp lb n, 0, cf_up ((cf_wl lp lb sg sb i).2.1) ((cf_wl lp lb sg sb i).1) i, (cf_wl lp lb sg sb i).2.2, tr, ver, tx, sg, sb)) H := hP
      have hD : va_D A (wX ad cI cZ (cf_hall home lp lb n, 0, cf_up ((cf_wl lp lb sg sb i).2.1) ((cf_wl lp lb sg sb i).1) i, (cf_wl lp lb sg sb i).2.2, tr, ver, tx, sg, sb)) := hD
      refine lv_iconst (v := nI 0) hx hb dX0_writeLog_30 (by rfl) ?_
      refine lv_istore_n (lv' := [(3, .int (nI 0)), (0, .ref (ad 0)), (1, .int (nI (cf_wl lp lb sg sb i).1)), (2, .int (nI i))]) hx hb dX0_writeLog_31 rfl hl (by decide) rfl (fun ls hl => ?_)
      refine w_loop (pc := 32) (fun k2 H locs ls => ∃ j : Nat, j + k2 = 8 ∧ va_P D vwCl (wX ad cI cZ (cf_hall home lp lb n, 0, cf_up (cf_wl lp lb sg sb i).2.1 (cf_wl lp lb sg sb i).1 i, cf_cpy (cf_wl lp lb sg sb i).2.2 sb (8 * (cf_wl lp lb sg sb i).1) (8 * i) j, tr, ver, tx, sg, sb)) H ∧ va_D A (wX ad cI cZ (cf_hall home lp lb n, 0, cf_up (cf_wl lp lb sg sb i).2.1 (cf_wl lp lb sg sb i).1 i, cf_cpy (cf_wl lp lb sg sb i).2.2 sb (8 * (cf_wl lp lb sg sb i).1) (8 * i) j, tr, ver, tx, sg, sb)) ∧ va_S A s.heap H locs ∧ lv_has ls 4 [(0, .ref (ad 0)), (1, .int (nI (cf_wl lp lb sg sb i).1)), (2, .int (nI i)), (3, .int (nI j))]) (fun k2 ih2 H locs ls hI => ?_) 8 _ _ _ ⟨0, (by omega), (by rw [cf_cpy_0]; exact hP), (by rw [cf_cpy_0]; exact hD), hS, lv_sub hl [1, 2, 3, 0] rfl⟩
      obtain ⟨j, hjk, hP, hD, hS, hl⟩ := hI
      refine lv_iload_n hx hb dX0_writeLog_32 rfl (lv_at hl 3 rfl) ?_
      refine lv_bipush (v := nI 8) hx hb dX0_writeLog_33 (by rfl) ?_
      refine lv_icmp_ge (tgt := 66) hx hb dX0_writeLog_35 (by decide) (fun c35 => ?_) (fun c35 => ?_)
      · have hjn := nn_leE (by omega) (by omega) c35
        have h8 : j = 8 := by omega
        subst h8
        refine lv_iinc (v := nI ((cf_wl lp lb sg sb i).1 + 1)) (lv' := [(1, .int (nI ((cf_wl lp lb sg sb i).1 + 1))), (0, .ref (ad 0)), (2, .int (nI i)), (3, .int (nI 8))]) hx hb dX0_writeLog_66 hl (k := 1) rfl (nI_add _ 1) (by decide) rfl (fun ls hl => ?_)
        refine lv_iinc (v := nI (i + 1)) (lv' := [(2, .int (nI (i + 1))), (1, .int (nI ((cf_wl lp lb sg sb i).1 + 1))), (0, .ref (ad 0)), (3, .int (nI 8))]) hx hb dX0_writeLog_69 hl (k := 2) rfl (nI_add _ 1) (by decide) rfl (fun ls hl => ?_)
        refine lv_goto (tgt := 8) hx hb dX0_writeLog_72 (by decide) ?_
        exact ih (k - 1) (by omega) _ _ _ ⟨i + 1, by omega, (by rw [cf_wl_p hsg]; exact hP), (by rw [cf_wl_p hsg]; exact hD), hS, (by rw [cf_wl_p hsg]; exact lv_sub hl [2, 1, 0] rfl)⟩
      · have hjn := nn_nleE (by omega) c35
        refine lv_aload_n hx hb dX0_writeLog_38 rfl (lv_at hl 0 rfl) ?_
        refine va_get (D := D) (ci := 0) (v := .ref (ad 3)) (C := RX0) (T := TX0) (N := 9) hx hb hts in_X0 hown hK hP 0 rfl rfl 3 (by decide) (hts _ q24) (fun _ h9 => h9) rfl dX0_writeLog_39 ?_
        refine lv_bipush (v := 8) hx hb dX0_writeLog_42 (by decide) ?_
        refine lv_iload_n hx hb dX0_writeLog_44 rfl (lv_at hl 1 rfl) ?_
        refine lv_imul hx hb dX0_writeLog_45 ?_
        refine lv_iload_n hx hb dX0_writeLog_46 rfl (lv_at hl 3 rfl) ?_
        refine lv_iadd hx hb dX0_writeLog_47 ?_
        refine w_top (y := nI (8 * (cf_wl lp lb sg sb i).1 + j)) (nn_8 (cf_wl lp lb sg sb i).1 j) ?_
        refine lv_aload_n hx hb dX0_writeLog_48 rfl (lv_at hl 0 rfl) ?_
        refine va_get (D := D) (ci := 0) (v := .ref (ad 5)) (C := RX0) (T := TX0) (N := 9) hx hb hts in_X0 hown hK hP 0 rfl rfl 8 (by decide) (hts _ q29) (fun _ h9 => h9) rfl dX0_writeLog_49 ?_
        refine lv_bipush (v := 8) hx hb dX0_writeLog_52 (by decide) ?_
        refine lv_iload_n hx hb dX0_writeLog_54 rfl (lv_at hl 2 rfl) ?_
        refine lv_imul hx hb dX0_writeLog_55 ?_
        refine lv_iload_n hx hb dX0_writeLog_56 rfl (lv_at hl 3 rfl) ?_
        refine lv_iadd hx hb dX0_writeLog_57 ?_
        refine w_top (y := nI (8 * i + j)) (nn_8 i j) ?_
        refine na_iald (f := sb) hx hb hK hP 5 0 rfl rfl (j := 8 * i + j) (by omega) (by decide) dX0_writeLog_58 ?_
        refine na_iast (f := cf_cpy (cf_wl lp lb sg sb i).2.2 sb (8 * (cf_wl lp lb sg sb i).1) (8 * i) j) (g := cf_cpy (cf_wl lp lb sg sb i).2.2 sb (8 * (cf_wl lp lb sg sb i).1) (8 * i) (j + 1)) (x := (sb (8 * i + j))) hx hb hK hP hD hS 3 0 rfl rfl (j := 8 * (cf_wl lp lb sg sb i).1 + j) (by omega) (by decide) (cf_cpy_s rfl rfl) dX0_writeLog_59 (fun H locs hP hD hS => ?_)
        have hP : va_P D vwCl (wX ad cI cZ (cf_hall home lp lb n, 0, cf_up (cf_wl lp lb sg sb i).2.1 (cf_wl lp lb sg sb i).1 i, cf_cpy (cf_wl lp lb sg sb i).2.2 sb (8 * (cf_wl lp lb sg sb i).1) (8 * i) (j + 1), tr, ver, tx, sg, sb)) H := hP
        have hD : va_D A (wX ad cI cZ (cf_hall home lp lb n, 0, cf_up (cf_wl lp lb sg sb i).2.1 (cf_wl lp lb sg sb i).1 i, cf_cpy (cf_wl lp lb sg sb i).2.2 sb (8 * (cf_wl lp lb sg sb i).1) (8 * i) (j + 1), tr, ver, tx, sg, sb)) := hD
        refine lv_iinc (v := nI (j + 1)) (lv' := [(3, .int (nI (j + 1))), (0, .ref (ad 0)), (1, .int (nI (cf_wl lp lb sg sb i).1)), (2, .int (nI i))]) hx hb dX0_writeLog_60 hl (k := 3) rfl (nI_add _ 1) (by decide) rfl (fun ls hl => ?_)
        refine lv_goto (tgt := 32) hx hb dX0_writeLog_63 (by decide) ?_
        exact ih2 (k2 - 1) (by omega) _ _ _ ⟨j + 1, by omega, hP, hD, hS, lv_sub hl [1, 2, 3, 0] rfl⟩
set_option maxHeartbeats 4000000 in
set_option maxRecDepth 100000 in
/-- start(): the log comes home, what is lost with the power is lost -/
theorem mX0_start (l : Launch) (D : va_G) (ad : Nat → Nat) (cI cZ : ClassId) (u : CFt) (hu : cf_ok u) : MCv l yX0_start cX0_start 1 ({ frames := 2, cells := 0, slots := 0, locals := 43 }) D (tyW cI cZ) [.ref (ad 0)] (wX ad cI cZ u) (fun u1 => u1 = cf_start u) (wX ad cI cZ) := by
  obtain ⟨home, n, lp, lb, tr, ver, tx, sg, sb⟩ := u
  obtain ⟨hn, hlp⟩ := hu
  unfold MCv
  refine mc_start (Qk := fun A => va_Qv _ (fun u t => bW D (tyW cI cZ) A (wX ad cI cZ u) t) A) (by decide) (Nat.le_of_ble_eq_true rfl) ?_
  intro p e s m below meth c A hx hb hr hml hown hts hloc hnm hK hP hD hA hS ls hl
  have hown : s.vm.findClass RX0 = some m.cls := hown
  have hl : lv_has ls 1 [(0, .ref (ad 0))] := hl
  refine lv_aload_n hx hb dX0_start_0 rfl (lv_at hl 0 rfl) ?_
  refine w_callv (wr := []) (mX0_bringAllHome l D ad cI cZ (home, n, lp, lb, tr, ver, tx, sg, sb) ⟨hn, hlp⟩) [0, 1, 2, 3, 4, 5] [] 0 ⟨hx, hb, hml, hown, hts⟩ (cwV 0 hts (lw_V q71 q73 qs3 q11 q74) rfl rfl rfl (by decide +kernel) ⟨Nat.le_of_ble_eq_true rfl, Nat.le_of_ble_eq_true rfl⟩) hP hD hK hS hA rfl rfl rfl rfl (by decide) rfl rfl rfl hl.1 rfl (Nat.le_of_ble_eq_true rfl) dX0_start_1 ⟨Nat.zero_le _, Nat.zero_le _⟩ (fun u H locs hw hP hD hS => ?_)
  subst hw
  have hP : va_P D vwCl (wX ad cI cZ (cf_hall home lp lb n, 0, lp, lb, tr, ver, tx, sg, sb)) H := hP
  have hD : va_D A (wX ad cI cZ (cf_hall home lp lb n, 0, lp, lb, tr, ver, tx, sg, sb)) := hD
  refine lv_aload_n hx hb dX0_start_4 rfl (lv_at hl 0 rfl) ?_
  refine w_callv (wr := []) (mX0_unstage l D ad cI cZ (cf_hall home lp lb n, 0, lp, lb, tr, ver, tx, sg, sb)) [0, 1, 2, 3, 4, 5] [] 0 ⟨hx, hb, hml, hown, hts⟩ (cwV 0 hts (lw_V q79 q81 qs5 q11 q82) rfl rfl rfl (by decide +kernel) ⟨Nat.le_of_ble_eq_true rfl, Nat.le_of_ble_eq_true rfl⟩) hP hD hK hS hA rfl rfl rfl rfl (by decide) rfl rfl rfl hl.1 rfl (Nat.le_of_ble_eq_true rfl) dX0_start_5 ⟨Nat.zero_le _, Nat.zero_le _⟩ (fun u H locs hw hP hD hS => ?_)
  subst hw
  have hP : va_P D vwCl (wX ad cI cZ (cf_hall home lp lb n, 0, lp, lb, tr, ver, tx, cf_unst sg, sb)) H := hP
  have hD : va_D A (wX ad cI cZ (cf_hall home lp lb n, 0, lp, lb, tr, ver, tx, cf_unst sg, sb)) := hD
  refine lv_aload_n hx hb dX0_start_8 rfl (lv_at hl 0 rfl) ?_
  refine lv_iconst (v := cf_b false) hx hb dX0_start_9 (by rfl) ?_
  refine va_put (D := D) (ci := 0) (v := .int (cf_b false)) (ty := .boolean) (C := RX0) (T := TX0) (N := 9) hx hb hts in_X0 tyX0 tyX0_ok nmX0 hown hK hP hD hS 0 rfl rfl 6 (by decide) (hts _ q27) (fun _ h9 => h9) rfl (by decide +kernel) (cf_b_fit _).1 (cf_b_fit _).2 (Nat.le_of_ble_eq_true rfl) dX0_start_10 (fun H locs hP hD hS => ?_)
  have hP : va_P D vwCl (wX ad cI cZ (cf_hall home lp lb n, 0, lp, lb, tr, ver, false, cf_unst sg, sb)) H := hP
  have hD : va_D A (wX ad cI cZ (cf_hall home lp lb n, 0, lp, lb, tr, ver, false, cf_unst sg, sb)) := hD
  refine lv_aload_n hx hb dX0_start_13 rfl (lv_at hl 0 rfl) ?_
  refine lv_iconst (v := cf_b false) hx hb dX0_start_14 (by rfl) ?_
  refine va_put (D := D) (ci := 0) (v := .int (cf_b false)) (ty := .boolean) (C := RX0) (T := TX0) (N := 9) hx hb hts in_X0 tyX0 tyX0_ok nmX0 hown hK hP hD hS 0 rfl rfl 5 (by decide) (hts _ q26) (fun _ h9 => h9) rfl (by decide +kernel) (cf_b_fit _).1 (cf_b_fit _).2 (Nat.le_of_ble_eq_true rfl) dX0_start_15 (fun H locs hP hD hS => ?_)
  have hP : va_P D vwCl (wX ad cI cZ (cf_hall home lp lb n, 0, lp, lb, tr, false, false, cf_unst sg, sb)) H := hP
  have hD : va_D A (wX ad cI cZ (cf_hall home lp lb n, 0, lp, lb, tr, false, false, cf_unst sg, sb)) := hD
  exact w_vret (S := CFt) (w := wX ad cI cZ) (cf_hall home lp lb n, 0, lp, lb, tr, false, false, cf_unst sg, sb) hx hb hr hloc hK hP hD hS dX0_start_18 rfl
set_option maxHeartbeats 4000000 in
set_option maxRecDepth 100000 in
/-- power() -/
theorem mX0_power (l : Launch) (D : va_G) (ad : Nat → Nat) (cI cZ : ClassId) (u : CFt) (hu : cf_ok u) : MCv l yX0_power cX0_power 1 ({ frames := 3, cells := 0, slots := 0, locals := 63 }) D (tyW cI cZ) [.ref (ad 0)] (wX ad cI cZ u) (fun u1 => u1 = cf_start u) (wX ad cI cZ) := by
  obtain ⟨home, n, lp, lb, tr, ver, tx, sg, sb⟩ := u
  obtain ⟨hn, hlp⟩ := hu
  unfold MCv
  refine mc_start (Qk := fun A => va_Qv _ (fun u t => bW D (tyW cI cZ) A (wX ad cI cZ u) t) A) (by decide) (Nat.le_of_ble_eq_true rfl) ?_
  intro p e s m below meth c A hx hb hr hml hown hts hloc hnm hK hP hD hA hS ls hl
  have hown : s.vm.findClass RX0 = some m.cls := hown
  have hl : lv_has ls 1 [(0, .ref (ad 0))] := hl
  refine lv_aload_n hx hb dX0_power_0 rfl (lv_at hl 0 rfl) ?_
  refine w_callv (wr := []) (mX0_start l D ad cI cZ (home, n, lp, lb, tr, ver, tx, sg, sb) ⟨hn, hlp⟩) [0, 1, 2, 3, 4, 5] [] 0 ⟨hx, hb, hml, hown, hts⟩ (cwV 0 hts (lw_V q119 q121 qs7 q11 q122) rfl rfl rfl (by decide +kernel) ⟨Nat.le_of_ble_eq_true rfl, Nat.le_of_ble_eq_true rfl⟩) hP hD hK hS hA rfl rfl rfl rfl (by decide) rfl rfl rfl hl.1 rfl (Nat.le_of_ble_eq_true rfl) dX0_power_1 ⟨Nat.zero_le _, Nat.zero_le _⟩ (fun u H locs hw hP hD hS => ?_)
  subst hw
  have hP : va_P D vwCl (wX ad cI cZ (cf_hall home lp lb n, 0, lp, lb, tr, false, false, cf_unst sg, sb)) H := hP
  have hD : va_D A (wX ad cI cZ (cf_hall home lp lb n, 0, lp, lb, tr, false, false, cf_unst sg, sb)) := hD
  exact w_vret (S := CFt) (w := wX ad cI cZ) (cf_hall home lp lb n, 0, lp, lb, tr, false, false, cf_unst sg, sb) hx hb hr hloc hK hP hD hS dX0_power_4 rfl
end
section
/-! CONTRACTS of CardFiles: the public methods -/
theorem nn_F {f : Int32} (h0 : ¬ f < 0) (h5 : f ≤ 5) : ∃ F : Nat, F ≤ 5 ∧ f = nI F := nI_of2 (M := 5) rfl h0 h5
theorem nn_cl {F : Nat} (h : F ≤ 1000) : (nI F).toNatClampNeg = F := nI_clamp (by omega)
theorem cf_size_in (u : CFt) {F : Nat} (h : F ≤ 5) : cf_size u (nI F) = cf_byte u 12 F &&& 31 := by
  unfold cf_size
  rw [if_neg, nn_cl (by omega)]
  intro q
  rcases q with q | q
  · exact nI_pos (by omega) q
  · exact nI_nlt (a := 5) (b := F) (by omega) (by omega) q |> False.elim
theorem cf_ok_stage {u : CFt} (pg : Nat) (h : cf_ok u) : cf_ok (cf_stage u pg) := by
  obtain ⟨home, n, lp, lb, tr, ver, tx, sg, sb⟩ := u
  show cf_ok (if sg pg = true then _ else _)
  by_cases q : sg pg = true
  · rw [if_pos q]; exact h
  · rw [if_neg q]; exact h
theorem cf_stage_tx (u : CFt) (pg : Nat) : cf_tx (cf_stage u pg) = cf_tx u := by
  obtain ⟨home, n, lp, lb, tr, ver, tx, sg, sb⟩ := u
  show cf_tx (if sg pg = true then _ else _) = _
  by_cases q : sg pg = true
  · rw [if_pos q]
  · rw [if_neg q]; rfl
theorem cf_and31 (x : Int32) : ∃ j : Nat, j < 32 ∧ x &&& 31 = nI j := pk_andE x 5 (by decide)
theorem cf_size_lt (u : CFt) (f : Int32) : ∃ j : Nat, j < 32 ∧ cf_size u f = nI j := by
  unfold cf_size
  by_cases h : f < 0 ∨ 5 < f
  · rw [if_pos h]; exact ⟨0, by omega, rfl⟩
  · rw [if_neg h]; exact cf_and31 _
theorem cf_refuse_0 {u : CFt} {f o : Int32} (h : cf_refuse u f o = 0) : ∃ F O : Nat, F ≤ 5 ∧ O < 32 ∧ f = nI F ∧ o = nI O := by
  unfold cf_refuse at h
  by_cases q : f < 0 ∨ 5 < f ∨ o < 0 ∨ cf_size u f ≤ o
  · rw [if_pos q] at h
    exact absurd h (by decide)
  · have h0 : ¬ f < 0 := fun z => q (Or.inl z)
    have h5 : f ≤ 5 := Int32.not_lt.mp (fun z => q (Or.inr (Or.inl z)))
    have ho : ¬ o < 0 := fun z => q (Or.inr (Or.inr (Or.inl z)))
    have hs : o < cf_size u f := Int32.not_le.mp (fun z => q (Or.inr (Or.inr (Or.inr z))))
    obtain ⟨F, hF, eF⟩ := nn_F h0 h5
    obtain ⟨O, hO, eO⟩ := nI_of ho
    obtain ⟨j, hj, ej⟩ := cf_size_lt u f
    rw [ej, eO] at hs
    have := (nI_ltI hO (by omega)).mp hs
    exact ⟨F, O, hF, by omega, eF, eO⟩
theorem nn_sh3 {O : Nat} (h : O < 1000) : nI O >>> ((3 : Int32) &&& 31) = nI (O / 8) := pk_shrN (by omega) _ 3 (by decide)
theorem nn_a7 {O : Nat} (h : O < 1000) : nI O &&& (7 : Int32) = nI (O % 8) := pk_andN (by omega) 3 (by decide)
theorem nn_2 (a : Nat) : (2 : Int32) * nI a = nI (2 * a) := by rw [show (2 : Int32) = nI 2 from rfl, pk_mul]
theorem nn_pgle {x : Int32} {i : Nat} (hi : i < 1000) (h : x ≤ nI i) : x.toNatClampNeg ≤ i := by
  have h1 := Int32.le_iff_toInt_le.mp h
  rw [nI_toInt (by omega)] at h1
  show x.toInt.toNat ≤ i
  omega
theorem nn_pglt {x : Int32} {i : Nat} (hi : i < 1000) (h : ¬ x ≤ nI i) : i < x.toNatClampNeg := by
  have h1 : ¬ x.toInt ≤ (nI i).toInt := fun q => h (Int32.le_iff_toInt_le.mpr q)
  rw [nI_toInt (by omega)] at h1
  show i < x.toInt.toNat
  omega
set_option maxHeartbeats 4000000 in
set_option maxRecDepth 100000 in
/-- size(file) -/
theorem mX0_size (l : Launch) (D : va_G) (ad : Nat → Nat) (cI cZ : ClassId) (u : CFt) (f : Int32) (hu : cf_ok u) : MCi l yX0_size cX0_size 2 ({ frames := 1, cells := 0, slots := 0, locals := 23 }) D (tyW cI cZ) [.ref (ad 0), .int f] (wX ad cI cZ u) (fun r u1 => r = cf_size u f ∧ u1 = u) (wX ad cI cZ) := by
  obtain ⟨home, n, lp, lb, tr, ver, tx, sg, sb⟩ := u
  obtain ⟨hn, hlp⟩ := hu
  unfold MCi
  refine mc_start (Qk := fun A => va_Qi _ (fun u t => bW D (tyW cI cZ) A (wX ad cI cZ u) t) A) (by decide) (Nat.le_of_ble_eq_true rfl) ?_
  intro p e s m below meth c A hx hb hr hml hown hts hloc hnm hK hP hD hA hS ls hl
  have hown : s.vm.findClass RX0 = some m.cls := hown
  have hl : lv_has ls 2 [(0, .ref (ad 0)), (1, .int f)] := hl
  refine lv_iload_n hx hb dX0_size_0 rfl (lv_at hl 1 rfl) ?_
  refine lv_if_lt (tgt := 9) hx hb dX0_size_1 (by decide) (fun c1 => ?_) (fun c1 => ?_)
  · refine lv_iconst (v := 0) hx hb dX0_size_9 (by decide) ?_
    refine lv_goto (tgt := 23) hx hb dX0_size_10 (by decide) ?_
    exact w_iret (S := CFt) (w := wX ad cI cZ) (home, n, lp, lb, tr, ver, tx, sg, sb) hx hb hr hloc hK hP hD hS dX0_size_23 ⟨(if_pos (Or.inl c1)).symm, rfl⟩
  · refine lv_iload_n hx hb dX0_size_4 rfl (lv_at hl 1 rfl) ?_
    refine lv_iconst (v := 5) hx hb dX0_size_5 (by decide) ?_
    refine lv_icmp_le (tgt := 13) hx hb dX0_size_6 (by decide) (fun c6 => ?_) (fun c6 => ?_)
    · obtain ⟨F, hF, rfl⟩ := nn_F c1 c6
      refine lv_aload_n hx hb dX0_size_13 rfl (lv_at hl 0 rfl) ?_
      refine lv_bipush (v := nI 12) hx hb dX0_size_14 (by rfl) ?_
      refine lv_iload_n hx hb dX0_size_16 rfl (lv_at hl 1 rfl) ?_
      refine w_calli (wr := []) (mX0_byteAt l D ad cI cZ (home, n, lp, lb, tr, ver, tx, sg, sb) 12 F ⟨hn, hlp⟩ (by omega) (by omega)) [0, 1, 2, 3, 4, 5] [] 0 ⟨hx, hb, hml, hown, hts⟩ (cwV 2 hts (lw_V q59 q61 qs0 q11 q62) rfl rfl rfl (by decide +kernel) ⟨Nat.le_of_ble_eq_true rfl, Nat.le_of_ble_eq_true rfl⟩) hP hD hK hS hA rfl rfl rfl rfl (by decide) rfl rfl rfl hl.1 rfl (Nat.le_of_ble_eq_true rfl) dX0_size_17 ⟨Nat.zero_le _, Nat.zero_le _⟩ (fun r u H locs hw hP hD hS => ?_)
      obtain ⟨rfl, rfl⟩ := hw
      have hP : va_P D vwCl (wX ad cI cZ (home, n, lp, lb, tr, ver, tx, sg, sb)) H := hP
      have hD : va_D A (wX ad cI cZ (home, n, lp, lb, tr, ver, tx, sg, sb)) := hD
      refine lv_bipush (v := 31) hx hb dX0_size_20 (by decide) ?_
      refine lv_iand hx hb dX0_size_22 ?_
      exact w_iret (S := CFt) (w := wX ad cI cZ) (home, n, lp, lb, tr, ver, tx, sg, sb) hx hb hr hloc hK hP hD hS dX0_size_23 ⟨(cf_size_in _ hF).symm, rfl⟩
    · refine lv_iconst (v := 0) hx hb dX0_size_9 (by decide) ?_
      refine lv_goto (tgt := 23) hx hb dX0_size_10 (by decide) ?_
      exact w_iret (S := CFt) (w := wX ad cI cZ) (home, n, lp, lb, tr, ver, tx, sg, sb) hx hb hr hloc hK hP hD hS dX0_size_23 ⟨(if_pos (Or.inr (Int32.not_le.mp c6))).symm, rfl⟩
set_option maxHeartbeats 4000000 in
set_option maxRecDepth 100000 in
/-- refuse(file, offset) -/
theorem mX0_refuse (l : Launch) (D : va_G) (ad : Nat → Nat) (cI cZ : ClassId) (u : CFt) (f o : Int32) (hu : cf_ok u) : MCi l yX0_refuse cX0_refuse 4 ({ frames := 2, cells := 0, slots := 0, locals := 44 }) D (tyW cI cZ) [.ref (ad 0), .int f, .int o] (wX ad cI cZ u) (fun r u1 => r = cf_refuse u f o ∧ u1 = u) (wX ad cI cZ) := by
  obtain ⟨home, n, lp, lb, tr, ver, tx, sg, sb⟩ := u
  obtain ⟨hn, hlp⟩ := hu
  unfold MCi
  refine mc_start (Qk := fun A => va_Qi _ (fun u t => bW D (tyW cI cZ) A (wX ad cI cZ u) t) A) (by decide) (Nat.le_of_ble_eq_true rfl) ?_
  intro p e s m below meth c A hx hb hr hml hown hts hloc hnm hK hP hD hA hS ls hl
  have hown : s.vm.findClass RX0 = some m.cls := hown
  have hl : lv_has ls 4 [(0, .ref (ad 0)), (1, .int f), (2, .int o)] := hl
  refine lv_iload_n hx hb dX0_refuse_0 rfl (lv_at hl 1 rfl) ?_
  refine lv_if_lt (tgt := 22) hx hb dX0_refuse_1 (by decide) (fun c1 => ?_) (fun c1 => ?_)
  · refine lv_iconst (v := (-1)) hx hb dX0_refuse_22 (by decide) ?_
    exact w_iret (S := CFt) (w := wX ad cI cZ) (home, n, lp, lb, tr, ver, tx, sg, sb) hx hb hr hloc hK hP hD hS dX0_refuse_23 ⟨(if_pos (Or.inl c1)).symm, rfl⟩
  · refine lv_iload_n hx hb dX0_refuse_4 rfl (lv_at hl 1 rfl) ?_
    refine lv_iconst (v := 5) hx hb dX0_refuse_5 (by decide) ?_
    refine lv_icmp_gt (tgt := 22) hx hb dX0_refuse_6 (by decide) (fun c6 => ?_) (fun c6 => ?_)
    · refine lv_iconst (v := (-1)) hx hb dX0_refuse_22 (by decide) ?_
      exact w_iret (S := CFt) (w := wX ad cI cZ) (home, n, lp, lb, tr, ver, tx, sg, sb) hx hb hr hloc hK hP hD hS dX0_refuse_23 ⟨(if_pos (Or.inr (Or.inl c6))).symm, rfl⟩
    · refine lv_iload_n hx hb dX0_refuse_9 rfl (lv_at hl 2 rfl) ?_
      refine lv_if_lt (tgt := 22) hx hb dX0_refuse_10 (by decide) (fun c10 => ?_) (fun c10 => ?_)
      · refine lv_iconst (v := (-1)) hx hb dX0_refuse_22 (by decide) ?_
        exact w_iret (S := CFt) (w := wX ad cI cZ) (home, n, lp, lb, tr, ver, tx, sg, sb) hx hb hr hloc hK hP hD hS dX0_refuse_23 ⟨(if_pos (Or.inr (Or.inr (Or.inl c10)))).symm, rfl⟩
      · refine lv_iload_n hx hb dX0_refuse_13 rfl (lv_at hl 2 rfl) ?_
        refine lv_aload_n hx hb dX0_refuse_14 rfl (lv_at hl 0 rfl) ?_
        refine lv_iload_n hx hb dX0_refuse_15 rfl (lv_at hl 1 rfl) ?_
        refine w_calli (wr := []) (mX0_size l D ad cI cZ (home, n, lp, lb, tr, ver, tx, sg, sb) f ⟨hn, hlp⟩) [0, 1, 2, 3, 4, 5] [] 0 ⟨hx, hb, hml, hown, hts⟩ (cwV 1 hts (lw_V q55 q56 q57 q11 q58) rfl rfl rfl (by decide +kernel) ⟨Nat.le_of_ble_eq_true rfl, Nat.le_of_ble_eq_true rfl⟩) hP hD hK hS hA rfl rfl rfl rfl (by decide) rfl rfl rfl hl.1 rfl (Nat.le_of_ble_eq_true rfl) dX0_refuse_16 ⟨Nat.zero_le _, Nat.zero_le _⟩ (fun r u H locs hw hP hD hS => ?_)
        obtain ⟨rfl, rfl⟩ := hw
        have hP : va_P D vwCl (wX ad cI cZ (home, n, lp, lb, tr, ver, tx, sg, sb)) H := hP
        have hD : va_D A (wX ad cI cZ (home, n, lp, lb, tr, ver, tx, sg, sb)) := hD
        refine lv_icmp_lt (tgt := 24) hx hb dX0_refuse_19 (by decide) (fun c19 => ?_) (fun c19 => ?_)
        · have hbad : ¬ (f < 0 ∨ 5 < f ∨ o < 0 ∨ cf_size (home, n, lp, lb, tr, ver, tx, sg, sb) f ≤ o) := by
            rintro (q | q | q | q)
            · exact c1 q
            · exact c6 q
            · exact c10 q
            · exact Int32.not_le.mpr c19 q
          obtain ⟨F, hF, rfl⟩ := nn_F c1 (Int32.not_lt.mp c6)
          refine lv_aload_n hx hb dX0_refuse_24 rfl (lv_at hl 0 rfl) ?_
          refine lv_bipush (v := nI 12) hx hb dX0_refuse_25 (by rfl) ?_
          refine lv_iload_n hx hb dX0_refuse_27 rfl (lv_at hl 1 rfl) ?_
          refine w_calli (wr := []) (mX0_byteAt l D ad cI cZ (home, n, lp, lb, tr, ver, tx, sg, sb) 12 F ⟨hn, hlp⟩ (by omega) (by omega)) [0, 1, 2, 3, 4, 5] [] 0 ⟨hx, hb, hml, hown, hts⟩ (cwV 2 hts (lw_V q59 q61 qs0 q11 q62) rfl rfl rfl (by decide +kernel) ⟨Nat.le_of_ble_eq_true rfl, Nat.le_of_ble_eq_true rfl⟩) hP hD hK hS hA rfl rfl rfl rfl (by decide) rfl rfl rfl hl.1 rfl (Nat.le_of_ble_eq_true rfl) dX0_refuse_28 ⟨Nat.zero_le _, Nat.zero_le _⟩ (fun r u H locs hw hP hD hS => ?_)
          obtain ⟨rfl, rfl⟩ := hw
          have hP : va_P D vwCl (wX ad cI cZ (home, n, lp, lb, tr, ver, tx, sg, sb)) H := hP
          have hD : va_D A (wX ad cI cZ (home, n, lp, lb, tr, ver, tx, sg, sb)) := hD
          refine lv_bipush (v := 32) hx hb dX0_refuse_31 (by decide) ?_
          refine lv_iand hx hb dX0_refuse_33 ?_
          refine lv_if_eq (tgt := 41) hx hb dX0_refuse_34 (by decide) (fun c34 => ?_) (fun c34 => ?_)
          · refine lv_iconst (v := 0) hx hb dX0_refuse_41 (by decide) ?_
            refine lv_istore_n (lv' := [(3, .int 0), (0, .ref (ad 0)), (1, .int (nI F)), (2, .int o)]) hx hb dX0_refuse_42 rfl hl (by decide) rfl (fun ls hl => ?_)
            refine lv_iload_n hx hb dX0_refuse_43 rfl (lv_at hl 0 rfl) ?_
            refine lv_if_eq (tgt := 59) hx hb dX0_refuse_44 (by decide) (fun c44 => ?_) (fun c44 => ?_)
            · refine lv_iconst (v := 0) hx hb dX0_refuse_59 (by decide) ?_
              exact w_iret (S := CFt) (w := wX ad cI cZ) (home, n, lp, lb, tr, ver, tx, sg, sb) hx hb hr hloc hK hP hD hS dX0_refuse_60 ⟨(by
                              unfold cf_refuse
                              rw [if_neg hbad, nn_cl (by omega), if_pos c34]), rfl⟩
            · exact absurd rfl c44
          · refine lv_iconst (v := 1) hx hb dX0_refuse_37 (by decide) ?_
            refine lv_goto (tgt := 42) hx hb dX0_refuse_38 (by decide) ?_
            refine lv_istore_n (lv' := [(3, .int 1), (0, .ref (ad 0)), (1, .int (nI F)), (2, .int o)]) hx hb dX0_refuse_42 rfl hl (by decide) rfl (fun ls hl => ?_)
            refine lv_iload_n hx hb dX0_refuse_43 rfl (lv_at hl 0 rfl) ?_
            refine lv_if_eq (tgt := 59) hx hb dX0_refuse_44 (by decide) (fun c44 => ?_) (fun c44 => ?_)
            · exact absurd c44 (by decide)
            · refine lv_aload_n hx hb dX0_refuse_47 rfl (lv_at hl 1 rfl) ?_
              refine va_get (D := D) (ci := 0) (v := .int (cf_b ver)) (C := RX0) (T := TX0) (N := 9) hx hb hts in_X0 hown hK hP 0 rfl rfl 5 (by decide) (hts _ q26) (fun _ h9 => h9) rfl dX0_refuse_48 ?_
              refine lv_if_ne (tgt := 59) hx hb dX0_refuse_51 (by decide) (fun c51 => ?_) (fun c51 => ?_)
              · refine lv_iconst (v := 0) hx hb dX0_refuse_59 (by decide) ?_
                exact w_iret (S := CFt) (w := wX ad cI cZ) (home, n, lp, lb, tr, ver, tx, sg, sb) hx hb hr hloc hK hP hD hS dX0_refuse_60 ⟨(by
                                  unfold cf_refuse
                                  rw [if_neg hbad, nn_cl (by omega), if_neg c34, if_pos (show cf_ver (home, n, lp, lb, tr, ver, tx, sg, sb) = true from cf_b_1 c51)]), rfl⟩
              · have hv0 := cf_b_0 c51
                refine lv_bipush (v := (-3)) hx hb dX0_refuse_54 (by decide) ?_
                refine lv_goto (tgt := 60) hx hb dX0_refuse_56 (by decide) ?_
                exact w_iret (S := CFt) (w := wX ad cI cZ) (home, n, lp, lb, tr, ver, tx, sg, sb) hx hb hr hloc hK hP hD hS dX0_refuse_60 ⟨(by
                                  unfold cf_refuse
                                  rw [if_neg hbad, nn_cl (by omega), if_neg c34, if_neg (by show ¬ ver = true; rw [hv0]; decide)]), rfl⟩
        · refine lv_iconst (v := (-1)) hx hb dX0_refuse_22 (by decide) ?_
          exact w_iret (S := CFt) (w := wX ad cI cZ) (home, n, lp, lb, tr, ver, tx, sg, sb) hx hb hr hloc hK hP hD hS dX0_refuse_23 ⟨(if_pos (Or.inr (Or.inr (Or.inr (Int32.not_lt.mp c19))))).symm, rfl⟩
set_option maxHeartbeats 4000000 in
set_option maxRecDepth 100000 in
/-- create(file, size, guarded) -/
theorem mX0_create (l : Launch) (D : va_G) (ad : Nat → Nat) (cI cZ : ClassId) (u : CFt) (f z : Int32) (gd : Bool) (hu : cf_ok u) : MCi l yX0_create cX0_create 4 ({ frames := 3, cells := 0, slots := 0, locals := 66 }) D (tyW cI cZ) [.ref (ad 0), .int f, .int z, .int (cf_b gd)] (wX ad cI cZ u) (fun r u1 => (r, u1) = cf_create u f z gd) (wX ad cI cZ) := by
  obtain ⟨home, n, lp, lb, tr, ver, tx, sg, sb⟩ := u
  obtain ⟨hn, hlp⟩ := hu
  unfold MCi
  refine mc_start (Qk := fun A => va_Qi _ (fun u t => bW D (tyW cI cZ) A (wX ad cI cZ u) t) A) (by decide) (Nat.le_of_ble_eq_true rfl) ?_
  intro p e s m below meth c A hx hb hr hml hown hts hloc hnm hK hP hD hA hS ls hl
  have hown : s.vm.findClass RX0 = some m.cls := hown
  have hl : lv_has ls 4 [(0, .ref (ad 0)), (1, .int f), (2, .int z), (3, .int (cf_b gd))] := hl
  refine lv_iload_n hx hb dX0_create_0 rfl (lv_at hl 1 rfl) ?_
  refine lv_if_lt (tgt := 28) hx hb dX0_create_1 (by decide) (fun c1 => ?_) (fun c1 => ?_)
  · refine lv_iconst (v := (-1)) hx hb dX0_create_28 (by decide) ?_
    exact w_iret (S := CFt) (w := wX ad cI cZ) (home, n, lp, lb, tr, ver, tx, sg, sb) hx hb hr hloc hK hP hD hS dX0_create_29 (if_pos (Or.inl c1)).symm
  · refine lv_iload_n hx hb dX0_create_4 rfl (lv_at hl 1 rfl) ?_
    refine lv_iconst (v := 5) hx hb dX0_create_5 (by decide) ?_
    refine lv_icmp_gt (tgt := 28) hx hb dX0_create_6 (by decide) (fun c6 => ?_) (fun c6 => ?_)
    · refine lv_iconst (v := (-1)) hx hb dX0_create_28 (by decide) ?_
      exact w_iret (S := CFt) (w := wX ad cI cZ) (home, n, lp, lb, tr, ver, tx, sg, sb) hx hb hr hloc hK hP hD hS dX0_create_29 (if_pos (Or.inr (Or.inl c6))).symm
    · refine lv_aload_n hx hb dX0_create_9 rfl (lv_at hl 0 rfl) ?_
      refine lv_iload_n hx hb dX0_create_10 rfl (lv_at hl 1 rfl) ?_
      refine w_calli (wr := []) (mX0_size l D ad cI cZ (home, n, lp, lb, tr, ver, tx, sg, sb) f ⟨hn, hlp⟩) [0, 1, 2, 3, 4, 5] [] 0 ⟨hx, hb, hml, hown, hts⟩ (cwV 1 hts (lw_V q55 q56 q57 q11 q58) rfl rfl rfl (by decide +kernel) ⟨Nat.le_of_ble_eq_true rfl, Nat.le_of_ble_eq_true rfl⟩) hP hD hK hS hA rfl rfl rfl rfl (by decide) rfl rfl rfl hl.1 rfl (Nat.le_of_ble_eq_true rfl) dX0_create_11 ⟨Nat.zero_le _, Nat.zero_le _⟩ (fun r u H locs hw hP hD hS => ?_)
      obtain ⟨rfl, rfl⟩ := hw
      have hP : va_P D vwCl (wX ad cI cZ (home, n, lp, lb, tr, ver, tx, sg, sb)) H := hP
      have hD : va_D A (wX ad cI cZ (home, n, lp, lb, tr, ver, tx, sg, sb)) := hD
      refine lv_if_gt (tgt := 28) hx hb dX0_create_14 (by decide) (fun c14 => ?_) (fun c14 => ?_)
      · refine lv_iconst (v := (-1)) hx hb dX0_create_28 (by decide) ?_
        exact w_iret (S := CFt) (w := wX ad cI cZ) (home, n, lp, lb, tr, ver, tx, sg, sb) hx hb hr hloc hK hP hD hS dX0_create_29 (if_pos (Or.inr (Or.inr (Or.inl c14)))).symm
      · refine lv_iload_n hx hb dX0_create_17 rfl (lv_at hl 2 rfl) ?_
        refine lv_iconst (v := 1) hx hb dX0_create_18 (by decide) ?_
        refine lv_icmp_lt (tgt := 28) hx hb dX0_create_19 (by decide) (fun c19 => ?_) (fun c19 => ?_)
        · refine lv_iconst (v := (-1)) hx hb dX0_create_28 (by decide) ?_
          exact w_iret (S := CFt) (w := wX ad cI cZ) (home, n, lp, lb, tr, ver, tx, sg, sb) hx hb hr hloc hK hP hD hS dX0_create_29 (if_pos (Or.inr (Or.inr (Or.inr (Or.inl c19))))).symm
        · refine lv_iload_n hx hb dX0_create_22 rfl (lv_at hl 2 rfl) ?_
          refine lv_bipush (v := 16) hx hb dX0_create_23 (by decide) ?_
          refine lv_icmp_le (tgt := 30) hx hb dX0_create_25 (by decide) (fun c25 => ?_) (fun c25 => ?_)
          · have hbad : ¬ (f < 0 ∨ 5 < f ∨ 0 < cf_size (home, n, lp, lb, tr, ver, tx, sg, sb) f ∨ z < 1 ∨ 16 < z) := by
              rintro (q | q | q | q | q)
              · exact c1 q
              · exact c6 q
              · exact c14 q
              · exact c19 q
              · exact Int32.not_lt.mpr c25 q
            refine lv_aload_n hx hb dX0_create_30 rfl (lv_at hl 0 rfl) ?_
            refine va_get (D := D) (ci := 0) (v := .int (cf_b tx)) (C := RX0) (T := TX0) (N := 9) hx hb hts in_X0 hown hK hP 0 rfl rfl 6 (by decide) (hts _ q27) (fun _ h9 => h9) rfl dX0_create_31 ?_
            refine lv_if_eq (tgt := 40) hx hb dX0_create_34 (by decide) (fun c34 => ?_) (fun c34 => ?_)
            · have htx := cf_b_0 c34
              obtain ⟨F, hF, rfl⟩ := nn_F c1 (Int32.not_lt.mp c6)
              refine lv_aload_n hx hb dX0_create_40 rfl (lv_at hl 0 rfl) ?_
              refine lv_bipush (v := nI 12) hx hb dX0_create_41 (by rfl) ?_
              refine w_callv (wr := []) (mX0_stage l D ad cI cZ (home, n, lp, lb, tr, ver, tx, sg, sb) 12 ⟨hn, hlp⟩ (by omega)) [0, 1, 2, 3, 4, 5] [] 0 ⟨hx, hb, hml, hown, hts⟩ (cwV 1 hts (lw_V q63 q65 qs1 q11 q66) rfl rfl rfl (by decide +kernel) ⟨Nat.le_of_ble_eq_true rfl, Nat.le_of_ble_eq_true rfl⟩) hP hD hK hS hA rfl rfl rfl rfl (by decide) rfl rfl rfl hl.1 rfl (Nat.le_of_ble_eq_true rfl) dX0_create_43 ⟨Nat.zero_le _, Nat.zero_le _⟩ (fun u H locs hw1 hP hD hS => ?_)
              obtain ⟨home1, n1, lp1, lb1, tr1, ver1, tx1, sg1, sb1⟩ := u
              have hP : va_P D vwCl (wX ad cI cZ (home1, n1, lp1, lb1, tr1, ver1, tx1, sg1, sb1)) H := hP
              have hD : va_D A (wX ad cI cZ (home1, n1, lp1, lb1, tr1, ver1, tx1, sg1, sb1)) := hD
              have hok : cf_ok (home1, n1, lp1, lb1, tr1, ver1, tx1, sg1, sb1) := by rw [hw1]; exact cf_ok_stage 12 ⟨hn, hlp⟩
              refine lv_aload_n hx hb dX0_create_46 rfl (lv_at hl 0 rfl) ?_
              refine va_get (D := D) (ci := 0) (v := .ref (ad 5)) (C := RX0) (T := TX0) (N := 9) hx hb hts in_X0 hown hK hP 0 rfl rfl 8 (by decide) (hts _ q29) (fun _ h9 => h9) rfl dX0_create_47 ?_
              refine lv_bipush (v := nI 96) hx hb dX0_create_50 (by rfl) ?_
              refine lv_iload_n hx hb dX0_create_52 rfl (lv_at hl 1 rfl) ?_
              refine lv_iadd hx hb dX0_create_53 ?_
              refine w_top (y := nI (96 + F)) (nI_add 96 F) ?_
              refine lv_iload_n hx hb dX0_create_54 rfl (lv_at hl 2 rfl) ?_
              refine lv_iload_n hx hb dX0_create_55 rfl (lv_at hl 3 rfl) ?_
              refine lv_if_eq (tgt := 64) hx hb dX0_create_56 (by decide) (fun c56 => ?_) (fun c56 => ?_)
              · have hgd := cf_b_0 c56
                refine lv_iconst (v := 0) hx hb dX0_create_64 (by decide) ?_
                refine lv_iadd hx hb dX0_create_65 ?_
                refine w_top (y := z + (if gd = true then 32 else 0)) (by rw [hgd]; rfl) ?_
                refine na_iast (f := sb1) (g := cf_up sb1 (96 + F) (z + (if gd = true then 32 else 0))) (x := (z + (if gd = true then 32 else 0))) hx hb hK hP hD hS 5 0 rfl rfl (j := 96 + F) (by omega) (by decide) rfl dX0_create_66 (fun H locs hP hD hS => ?_)
                have hP : va_P D vwCl (wX ad cI cZ (home1, n1, lp1, lb1, tr1, ver1, tx1, sg1, cf_up sb1 (96 + F) (z + (if gd = true then 32 else 0)))) H := hP
                have hD : va_D A (wX ad cI cZ (home1, n1, lp1, lb1, tr1, ver1, tx1, sg1, cf_up sb1 (96 + F) (z + (if gd = true then 32 else 0)))) := hD
                refine lv_aload_n hx hb dX0_create_67 rfl (lv_at hl 0 rfl) ?_
                refine w_callv (wr := []) (mX0_writeLog l D ad cI cZ (home1, n1, lp1, lb1, tr1, ver1, tx1, sg1, cf_up sb1 (96 + F) (z + (if gd = true then 32 else 0))) hok) [0, 1, 2, 3, 4, 5] [] 0 ⟨hx, hb, hml, hown, hts⟩ (cwV 0 hts (lw_V q67 q69 qs2 q11 q70) rfl rfl rfl (by decide +kernel) ⟨Nat.le_of_ble_eq_true rfl, Nat.le_of_ble_eq_true rfl⟩) hP hD hK hS hA rfl rfl rfl rfl (by decide) rfl rfl rfl hl.1 rfl (Nat.le_of_ble_eq_true rfl) dX0_create_68 ⟨Nat.zero_le _, Nat.zero_le _⟩ (fun u H locs hw hP hD hS => ?_)
                obtain ⟨home2, n2, lp2, lb2, tr2, ver2, tx2, sg2, sb2⟩ := u
                have hP : va_P D vwCl (wX ad cI cZ (home2, n2, lp2, lb2, tr2, ver2, tx2, sg2, sb2)) H := hP
                have hD : va_D A (wX ad cI cZ (home2, n2, lp2, lb2, tr2, ver2, tx2, sg2, sb2)) := hD
                refine lv_iconst (v := 0) hx hb dX0_create_71 (by decide) ?_
                exact w_iret (S := CFt) (w := wX ad cI cZ) (home2, n2, lp2, lb2, tr2, ver2, tx2, sg2, sb2) hx hb hr hloc hK hP hD hS dX0_create_72 (by
                                  unfold cf_create
                                  rw [if_neg hbad, if_neg (by show ¬ tx = true; rw [htx]; decide), nn_cl (by omega), ← hw1, hw]
                                  rfl)
              · have hgd := cf_b_1 c56
                refine lv_bipush (v := 32) hx hb dX0_create_59 (by decide) ?_
                refine lv_goto (tgt := 65) hx hb dX0_create_61 (by decide) ?_
                refine lv_iadd hx hb dX0_create_65 ?_
                refine w_top (y := z + (if gd = true then 32 else 0)) (by rw [hgd]; rfl) ?_
                refine na_iast (f := sb1) (g := cf_up sb1 (96 + F) (z + (if gd = true then 32 else 0))) (x := (z + (if gd = true then 32 else 0))) hx hb hK hP hD hS 5 0 rfl rfl (j := 96 + F) (by omega) (by decide) rfl dX0_create_66 (fun H locs hP hD hS => ?_)
                have hP : va_P D vwCl (wX ad cI cZ (home1, n1, lp1, lb1, tr1, ver1, tx1, sg1, cf_up sb1 (96 + F) (z + (if gd = true then 32 else 0)))) H := hP
                have hD : va_D A (wX ad cI cZ (home1, n1, lp1, lb1, tr1, ver1, tx1, sg1, cf_up sb1 (96 + F) (z + (if gd = true then 32 else 0)))) := hD
                refine lv_aload_n hx hb dX0_create_67 rfl (lv_at hl 0 rfl) ?_
                refine w_callv (wr := []) (mX0_writeLog l D ad cI cZ (home1, n1, lp1, lb1, tr1, ver1, tx1, sg1, cf_up sb1 (96 + F) (z + (if gd = true then 32 else 0))) hok) [0, 1, 2, 3, 4, 5] [] 0 ⟨hx, hb, hml, hown, hts⟩ (cwV 0 hts (lw_V q67 q69 qs2 q11 q70) rfl rfl rfl (by decide +kernel) ⟨Nat.le_of_ble_eq_true rfl, Nat.le_of_ble_eq_true rfl⟩) hP hD hK hS hA rfl rfl rfl rfl (by decide) rfl rfl rfl hl.1 rfl (Nat.le_of_ble_eq_true rfl) dX0_create_68 ⟨Nat.zero_le _, Nat.zero_le _⟩ (fun u H locs hw hP hD hS => ?_)
                obtain ⟨home2, n2, lp2, lb2, tr2, ver2, tx2, sg2, sb2⟩ := u
                have hP : va_P D vwCl (wX ad cI cZ (home2, n2, lp2, lb2, tr2, ver2, tx2, sg2, sb2)) H := hP
                have hD : va_D A (wX ad cI cZ (home2, n2, lp2, lb2, tr2, ver2, tx2, sg2, sb2)) := hD
                refine lv_iconst (v := 0) hx hb dX0_create_71 (by decide) ?_
                exact w_iret (S := CFt) (w := wX ad cI cZ) (home2, n2, lp2, lb2, tr2, ver2, tx2, sg2, sb2) hx hb hr hloc hK hP hD hS dX0_create_72 (by
                                  unfold cf_create
                                  rw [if_neg hbad, if_neg (by show ¬ tx = true; rw [htx]; decide), nn_cl (by omega), ← hw1, hw]
                                  rfl)
            · have htx := cf_b_1 c34
              refine lv_bipush (v := (-2)) hx hb dX0_create_37 (by decide) ?_
              exact w_iret (S := CFt) (w := wX ad cI cZ) (home, n, lp, lb, tr, ver, tx, sg, sb) hx hb hr hloc hK hP hD hS dX0_create_39 (by
                              unfold cf_create
                              rw [if_neg hbad, if_pos (show cf_tx (home, n, lp, lb, tr, ver, tx, sg, sb) = true from htx)])
          · refine lv_iconst (v := (-1)) hx hb dX0_create_28 (by decide) ?_
            exact w_iret (S := CFt) (w := wX ad cI cZ) (home, n, lp, lb, tr, ver, tx, sg, sb) hx hb hr hloc hK hP hD hS dX0_create_29 (if_pos (Or.inr (Or.inr (Or.inr (Or.inr (Int32.not_le.mp c25)))))).symm
set_option maxHeartbeats 4000000 in
set_option maxRecDepth 100000 in
/-- update(file, offset, value) -/
theorem mX0_update (l : Launch) (D : va_G) (ad : Nat → Nat) (cI cZ : ClassId) (u : CFt) (f o vv : Int32) (hu : cf_ok u) : MCi l yX0_update cX0_update 6 ({ frames := 3, cells := 0, slots := 0, locals := 67 }) D (tyW cI cZ) [.ref (ad 0), .int f, .int o, .int vv] (wX ad cI cZ u) (fun r u1 => (r, u1) = cf_update u f o vv) (wX ad cI cZ) := by
  obtain ⟨home, n, lp, lb, tr, ver, tx, sg, sb⟩ := u
  obtain ⟨hn, hlp⟩ := hu
  unfold MCi
  refine mc_start (Qk := fun A => va_Qi _ (fun u t => bW D (tyW cI cZ) A (wX ad cI cZ u) t) A) (by decide) (Nat.le_of_ble_eq_true rfl) ?_
  intro p e s m below meth c A hx hb hr hml hown hts hloc hnm hK hP hD hA hS ls hl
  have hown : s.vm.findClass RX0 = some m.cls := hown
  have hl : lv_has ls 6 [(0, .ref (ad 0)), (1, .int f), (2, .int o), (3, .int vv)] := hl
  refine lv_aload_n hx hb dX0_update_0 rfl (lv_at hl 0 rfl) ?_
  refine lv_iload_n hx hb dX0_update_1 rfl (lv_at hl 1 rfl) ?_
  refine lv_iload_n hx hb dX0_update_2 rfl (lv_at hl 2 rfl) ?_
  refine w_calli (wr := []) (mX0_refuse l D ad cI cZ (home, n, lp, lb, tr, ver, tx, sg, sb) f o ⟨hn, hlp⟩) [0, 1, 2, 3, 4, 5] [] 0 ⟨hx, hb, hml, hown, hts⟩ (cwV 2 hts (lw_V q87 q89 qs6 q11 q90) rfl rfl rfl (by decide +kernel) ⟨Nat.le_of_ble_eq_true rfl, Nat.le_of_ble_eq_true rfl⟩) hP hD hK hS hA rfl rfl rfl rfl (by decide) rfl rfl rfl hl.1 rfl (Nat.le_of_ble_eq_true rfl) dX0_update_3 ⟨Nat.zero_le _, Nat.zero_le _⟩ (fun r u H locs hw hP hD hS => ?_)
  obtain ⟨rfl, rfl⟩ := hw
  have hP : va_P D vwCl (wX ad cI cZ (home, n, lp, lb, tr, ver, tx, sg, sb)) H := hP
  have hD : va_D A (wX ad cI cZ (home, n, lp, lb, tr, ver, tx, sg, sb)) := hD
  refine lv_istore (lv' := [(4, .int (cf_refuse (home, n, lp, lb, tr, ver, tx, sg, sb) f o)), (0, .ref (ad 0)), (1, .int f), (2, .int o), (3, .int vv)]) hx hb dX0_update_6 hl (by decide) rfl (fun ls hl => ?_)
  refine lv_iload hx hb dX0_update_8 (lv_at hl 0 rfl) ?_
  refine lv_if_eq (tgt := 16) hx hb dX0_update_10 (by decide) (fun c10 => ?_) (fun c10 => ?_)
  · obtain ⟨F, O, hF, hO, rfl, rfl⟩ := cf_refuse_0 c10
    refine lv_iconst (v := 2) hx hb dX0_update_16 (by decide) ?_
    refine lv_iload_n hx hb dX0_update_17 rfl (lv_at hl 2 rfl) ?_
    refine lv_imul hx hb dX0_update_18 ?_
    refine w_top (y := nI (2 * F)) (nn_2 F) ?_
    refine lv_iload_n hx hb dX0_update_19 rfl (lv_at hl 3 rfl) ?_
    refine lv_iconst (v := 3) hx hb dX0_update_20 (by decide) ?_
    refine lv_ishr hx hb dX0_update_21 ?_
    refine w_top (y := nI (O / 8)) (nn_sh3 (by omega)) ?_
    refine lv_iadd hx hb dX0_update_22 ?_
    refine w_top (y := nI (2 * F + O / 8)) (nI_add _ _) ?_
    refine lv_istore (lv' := [(5, .int (nI (2 * F + O / 8))), (4, .int (cf_refuse (home, n, lp, lb, tr, ver, tx, sg, sb) (nI F) (nI O))), (0, .ref (ad 0)), (1, .int (nI F)), (2, .int (nI O)), (3, .int vv)]) hx hb dX0_update_23 hl (by decide) rfl (fun ls hl => ?_)
    refine lv_aload_n hx hb dX0_update_25 rfl (lv_at hl 2 rfl) ?_
    refine lv_iload hx hb dX0_update_26 (lv_at hl 0 rfl) ?_
    refine w_callv (wr := []) (mX0_stage l D ad cI cZ (home, n, lp, lb, tr, ver, tx, sg, sb) (2 * F + O / 8) ⟨hn, hlp⟩ (by omega)) [0, 1, 2, 3, 4, 5] [] 0 ⟨hx, hb, hml, hown, hts⟩ (cwV 1 hts (lw_V q63 q65 qs1 q11 q66) rfl rfl rfl (by decide +kernel) ⟨Nat.le_of_ble_eq_true rfl, Nat.le_of_ble_eq_true rfl⟩) hP hD hK hS hA rfl rfl rfl rfl (by decide) rfl rfl rfl hl.1 rfl (Nat.le_of_ble_eq_true rfl) dX0_update_28 ⟨Nat.zero_le _, Nat.zero_le _⟩ (fun u H locs hw1 hP hD hS => ?_)
    obtain ⟨home1, n1, lp1, lb1, tr1, ver1, tx1, sg1, sb1⟩ := u
    have hP : va_P D vwCl (wX ad cI cZ (home1, n1, lp1, lb1, tr1, ver1, tx1, sg1, sb1)) H := hP
    have hD : va_D A (wX ad cI cZ (home1, n1, lp1, lb1, tr1, ver1, tx1, sg1, sb1)) := hD
    have hok : cf_ok (home1, n1, lp1, lb1, tr1, ver1, tx1, sg1, sb1) := by rw [hw1]; exact cf_ok_stage (2 * F + O / 8) ⟨hn, hlp⟩
    have htx : tx1 = tx := by
      have h := congrArg cf_tx hw1
      rw [cf_stage_tx] at h
      exact h
    refine lv_aload_n hx hb dX0_update_31 rfl (lv_at hl 2 rfl) ?_
    refine va_get (D := D) (ci := 0) (v := .ref (ad 5)) (C := RX0) (T := TX0) (N := 9) hx hb hts in_X0 hown hK hP 0 rfl rfl 8 (by decide) (hts _ q29) (fun _ h9 => h9) rfl dX0_update_32 ?_
    refine lv_bipush (v := 8) hx hb dX0_update_35 (by decide) ?_
    refine lv_iload hx hb dX0_update_37 (lv_at hl 0 rfl) ?_
    refine lv_imul hx hb dX0_update_39 ?_
    refine lv_iload_n hx hb dX0_update_40 rfl (lv_at hl 4 rfl) ?_
    refine lv_bipush (v := 7) hx hb dX0_update_41 (by decide) ?_
    refine lv_iand hx hb dX0_update_43 ?_
    refine w_top (y := nI (O % 8)) (nn_a7 (by omega)) ?_
    refine lv_iadd hx hb dX0_update_44 ?_
    refine w_top (y := nI (8 * (2 * F + O / 8) + O % 8)) (nn_8 (2 * F + O / 8) (O % 8)) ?_
    refine lv_iload_n hx hb dX0_update_45 rfl (lv_at hl 5 rfl) ?_
    refine lv_sipush (v := 255) hx hb dX0_update_46 (by decide) ?_
    refine lv_iand hx hb dX0_update_49 ?_
    refine na_iast (f := sb1) (g := cf_up sb1 (8 * (2 * F + O / 8) + O % 8) (vv &&& 255)) (x := (vv &&& 255)) hx hb hK hP hD hS 5 0 rfl rfl (j := 8 * (2 * F + O / 8) + O % 8) (by omega) (by decide) rfl dX0_update_50 (fun H locs hP hD hS => ?_)
    have hP : va_P D vwCl (wX ad cI cZ (home1, n1, lp1, lb1, tr1, ver1, tx1, sg1, cf_up sb1 (8 * (2 * F + O / 8) + O % 8) (vv &&& 255))) H := hP
    have hD : va_D A (wX ad cI cZ (home1, n1, lp1, lb1, tr1, ver1, tx1, sg1, cf_up sb1 (8 * (2 * F + O / 8) + O % 8) (vv &&& 255))) := hD
    refine lv_aload_n hx hb dX0_update_51 rfl (lv_at hl 2 rfl) ?_
    refine va_get (D := D) (ci := 0) (v := .int (cf_b tx1)) (C := RX0) (T := TX0) (N := 9) hx hb hts in_X0 hown hK hP 0 rfl rfl 6 (by decide) (hts _ q27) (fun _ h9 => h9) rfl dX0_update_52 ?_
    have hpg : cf_page (nI F) (nI O) = (2 * F + O / 8) := by unfold cf_page; rw [nn_cl (by omega), nn_cl (by omega)]
    refine lv_if_ne (tgt := 62) hx hb dX0_update_55 (by decide) (fun c55 => ?_) (fun c55 => ?_)
    · have htx2 := cf_b_1 c55
      refine lv_iconst (v := 0) hx hb dX0_update_62 (by decide) ?_
      exact w_iret (S := CFt) (w := wX ad cI cZ) (home1, n1, lp1, lb1, tr1, ver1, tx1, sg1, cf_up sb1 (8 * (2 * F + O / 8) + O % 8) (vv &&& 255)) hx hb hr hloc hK hP hD hS dX0_update_63 (by
              unfold cf_update cf_upd1
              rw [if_pos c10, if_pos (show cf_tx (home, n, lp, lb, tr, ver, tx, sg, sb) = true by rw [← htx2, htx]; rfl), hpg, nn_cl (by omega), ← hw1]
              rfl)
    · have htx2 := cf_b_0 c55
      refine lv_aload_n hx hb dX0_update_58 rfl (lv_at hl 2 rfl) ?_
      refine w_callv (wr := []) (mX0_writeLog l D ad cI cZ (home1, n1, lp1, lb1, tr1, ver1, tx1, sg1, cf_up sb1 (8 * (2 * F + O / 8) + O % 8) (vv &&& 255)) hok) [0, 1, 2, 3, 4, 5] [] 0 ⟨hx, hb, hml, hown, hts⟩ (cwV 0 hts (lw_V q67 q69 qs2 q11 q70) rfl rfl rfl (by decide +kernel) ⟨Nat.le_of_ble_eq_true rfl, Nat.le_of_ble_eq_true rfl⟩) hP hD hK hS hA rfl rfl rfl rfl (by decide) rfl rfl rfl hl.1 rfl (Nat.le_of_ble_eq_true rfl) dX0_update_59 ⟨Nat.zero_le _, Nat.zero_le _⟩ (fun u H locs hw hP hD hS => ?_)
      obtain ⟨home2, n2, lp2, lb2, tr2, ver2, tx2, sg2, sb2⟩ := u
      have hP : va_P D vwCl (wX ad cI cZ (home2, n2, lp2, lb2, tr2, ver2, tx2, sg2, sb2)) H := hP
      have hD : va_D A (wX ad cI cZ (home2, n2, lp2, lb2, tr2, ver2, tx2, sg2, sb2)) := hD
      refine lv_iconst (v := 0) hx hb dX0_update_62 (by decide) ?_
      exact w_iret (S := CFt) (w := wX ad cI cZ) (home2, n2, lp2, lb2, tr2, ver2, tx2, sg2, sb2) hx hb hr hloc hK hP hD hS dX0_update_63 (by
              unfold cf_update cf_upd1
              rw [if_pos c10, if_neg (show ¬ cf_tx (home, n, lp, lb, tr, ver, tx, sg, sb) = true by show ¬ tx = true; rw [← htx, htx2]; decide), hpg, nn_cl (by omega), ← hw1, hw]
              rfl)
  · refine lv_iload hx hb dX0_update_13 (lv_at hl 0 rfl) ?_
    exact w_iret (S := CFt) (w := wX ad cI cZ) (home, n, lp, lb, tr, ver, tx, sg, sb) hx hb hr hloc hK hP hD hS dX0_update_15 (by
          unfold cf_update
          rw [if_neg c10])
set_option maxHeartbeats 4000000 in
set_option maxRecDepth 100000 in
/-- read(file, offset) -/
theorem mX0_read (l : Launch) (D : va_G) (ad : Nat → Nat) (cI cZ : ClassId) (u : CFt) (f o : Int32) (hu : cf_ok u) : MCi l yX0_read cX0_read 4 ({ frames := 3, cells := 0, slots := 0, locals := 67 }) D (tyW cI cZ) [.ref (ad 0), .int f, .int o] (wX ad cI cZ u) (fun r u1 => r = cf_read u f o ∧ u1 = u) (wX ad cI cZ) := by
  obtain ⟨home, n, lp, lb, tr, ver, tx, sg, sb⟩ := u
  obtain ⟨hn, hlp⟩ := hu
  unfold MCi
  refine mc_start (Qk := fun A => va_Qi _ (fun u t => bW D (tyW cI cZ) A (wX ad cI cZ u) t) A) (by decide) (Nat.le_of_ble_eq_true rfl) ?_
  intro p e s m below meth c A hx hb hr hml hown hts hloc hnm hK hP hD hA hS ls hl
  have hown : s.vm.findClass RX0 = some m.cls := hown
  have hl : lv_has ls 4 [(0, .ref (ad 0)), (1, .int f), (2, .int o)] := hl
  refine lv_aload_n hx hb dX0_read_0 rfl (lv_at hl 0 rfl) ?_
  refine lv_iload_n hx hb dX0_read_1 rfl (lv_at hl 1 rfl) ?_
  refine lv_iload_n hx hb dX0_read_2 rfl (lv_at hl 2 rfl) ?_
  refine w_calli (wr := []) (mX0_refuse l D ad cI cZ (home, n, lp, lb, tr, ver, tx, sg, sb) f o ⟨hn, hlp⟩) [0, 1, 2, 3, 4, 5] [] 0 ⟨hx, hb, hml, hown, hts⟩ (cwV 2 hts (lw_V q87 q89 qs6 q11 q90) rfl rfl rfl (by decide +kernel) ⟨Nat.le_of_ble_eq_true rfl, Nat.le_of_ble_eq_true rfl⟩) hP hD hK hS hA rfl rfl rfl rfl (by decide) rfl rfl rfl hl.1 rfl (Nat.le_of_ble_eq_true rfl) dX0_read_3 ⟨Nat.zero_le _, Nat.zero_le _⟩ (fun r u H locs hw hP hD hS => ?_)
  obtain ⟨rfl, rfl⟩ := hw
  have hP : va_P D vwCl (wX ad cI cZ (home, n, lp, lb, tr, ver, tx, sg, sb)) H := hP
  have hD : va_D A (wX ad cI cZ (home, n, lp, lb, tr, ver, tx, sg, sb)) := hD
  refine lv_istore_n (lv' := [(3, .int (cf_refuse (home, n, lp, lb, tr, ver, tx, sg, sb) f o)), (0, .ref (ad 0)), (1, .int f), (2, .int o)]) hx hb dX0_read_6 rfl hl (by decide) rfl (fun ls hl => ?_)
  refine lv_iload_n hx hb dX0_read_7 rfl (lv_at hl 0 rfl) ?_
  refine lv_if_eq (tgt := 13) hx hb dX0_read_8 (by decide) (fun c8 => ?_) (fun c8 => ?_)
  · obtain ⟨F, O, hF, hO, rfl, rfl⟩ := cf_refuse_0 c8
    refine lv_aload_n hx hb dX0_read_13 rfl (lv_at hl 1 rfl) ?_
    refine lv_iconst (v := 2) hx hb dX0_read_14 (by decide) ?_
    refine lv_iload_n hx hb dX0_read_15 rfl (lv_at hl 2 rfl) ?_
    refine lv_imul hx hb dX0_read_16 ?_
    refine w_top (y := nI (2 * F)) (nn_2 F) ?_
    refine lv_iload_n hx hb dX0_read_17 rfl (lv_at hl 3 rfl) ?_
    refine lv_iconst (v := 3) hx hb dX0_read_18 (by decide) ?_
    refine lv_ishr hx hb dX0_read_19 ?_
    refine w_top (y := nI (O / 8)) (nn_sh3 (by omega)) ?_
    refine lv_iadd hx hb dX0_read_20 ?_
    refine w_top (y := nI (2 * F + O / 8)) (nI_add _ _) ?_
    refine lv_iload_n hx hb dX0_read_21 rfl (lv_at hl 3 rfl) ?_
    refine lv_bipush (v := 7) hx hb dX0_read_22 (by decide) ?_
    refine lv_iand hx hb dX0_read_24 ?_
    refine w_top (y := nI (O % 8)) (nn_a7 (by omega)) ?_
    refine w_calli (wr := []) (mX0_byteAt l D ad cI cZ (home, n, lp, lb, tr, ver, tx, sg, sb) (2 * F + O / 8) (O % 8) ⟨hn, hlp⟩ (by omega) (by omega)) [0, 1, 2, 3, 4, 5] [] 0 ⟨hx, hb, hml, hown, hts⟩ (cwV 2 hts (lw_V q59 q61 qs0 q11 q62) rfl rfl rfl (by decide +kernel) ⟨Nat.le_of_ble_eq_true rfl, Nat.le_of_ble_eq_true rfl⟩) hP hD hK hS hA rfl rfl rfl rfl (by decide) rfl rfl rfl hl.1 rfl (Nat.le_of_ble_eq_true rfl) dX0_read_25 ⟨Nat.zero_le _, Nat.zero_le _⟩ (fun r u H locs hw hP hD hS => ?_)
    obtain ⟨rfl, rfl⟩ := hw
    have hP : va_P D vwCl (wX ad cI cZ (home, n, lp, lb, tr, ver, tx, sg, sb)) H := hP
    have hD : va_D A (wX ad cI cZ (home, n, lp, lb, tr, ver, tx, sg, sb)) := hD
    have hpg : cf_page (nI F) (nI O) = (2 * F + O / 8) := by unfold cf_page; rw [nn_cl (by omega), nn_cl (by omega)]
    exact w_iret (S := CFt) (w := wX ad cI cZ) (home, n, lp, lb, tr, ver, tx, sg, sb) hx hb hr hloc hK hP hD hS dX0_read_28 ⟨(by
          unfold cf_read
          rw [if_pos c8, hpg, nn_cl (by omega)]), rfl⟩
  · refine lv_iload_n hx hb dX0_read_11 rfl (lv_at hl 0 rfl) ?_
    exact w_iret (S := CFt) (w := wX ad cI cZ) (home, n, lp, lb, tr, ver, tx, sg, sb) hx hb hr hloc hK hP hD hS dX0_read_12 ⟨(by
          unfold cf_read
          rw [if_neg c8]), rfl⟩
set_option maxHeartbeats 4000000 in
set_option maxRecDepth 100000 in
/-- begin() -/
theorem mX0_begin (l : Launch) (D : va_G) (ad : Nat → Nat) (cI cZ : ClassId) (u : CFt) : MCi l yX0_begin cX0_begin 1 ({ frames := 0, cells := 0, slots := 0, locals := 0 }) D (tyW cI cZ) [.ref (ad 0)] (wX ad cI cZ u) (fun r u1 => (r, u1) = cf_begin u) (wX ad cI cZ) := by
  obtain ⟨home, n, lp, lb, tr, ver, tx, sg, sb⟩ := u
  unfold MCi
  refine mc_start (Qk := fun A => va_Qi _ (fun u t => bW D (tyW cI cZ) A (wX ad cI cZ u) t) A) (by decide) (Nat.le_of_ble_eq_true rfl) ?_
  intro p e s m below meth c A hx hb hr hml hown hts hloc hnm hK hP hD hA hS ls hl
  have hown : s.vm.findClass RX0 = some m.cls := hown
  have hl : lv_has ls 1 [(0, .ref (ad 0))] := hl
  refine lv_aload_n hx hb dX0_begin_0 rfl (lv_at hl 0 rfl) ?_
  refine va_get (D := D) (ci := 0) (v := .int (cf_b tx)) (C := RX0) (T := TX0) (N := 9) hx hb hts in_X0 hown hK hP 0 rfl rfl 6 (by decide) (hts _ q27) (fun _ h9 => h9) rfl dX0_begin_1 ?_
  refine lv_if_eq (tgt := 10) hx hb dX0_begin_4 (by decide) (fun c4 => ?_) (fun c4 => ?_)
  · have htx := cf_b_0 c4
    refine lv_aload_n hx hb dX0_begin_10 rfl (lv_at hl 0 rfl) ?_
    refine lv_iconst (v := cf_b true) hx hb dX0_begin_11 (by rfl) ?_
    refine va_put (D := D) (ci := 0) (v := .int (cf_b true)) (ty := .boolean) (C := RX0) (T := TX0) (N := 9) hx hb hts in_X0 tyX0 tyX0_ok nmX0 hown hK hP hD hS 0 rfl rfl 6 (by decide) (hts _ q27) (fun _ h9 => h9) rfl (by decide +kernel) (cf_b_fit _).1 (cf_b_fit _).2 (Nat.le_of_ble_eq_true rfl) dX0_begin_12 (fun H locs hP hD hS => ?_)
    have hP : va_P D vwCl (wX ad cI cZ (home, n, lp, lb, tr, ver, true, sg, sb)) H := hP
    have hD : va_D A (wX ad cI cZ (home, n, lp, lb, tr, ver, true, sg, sb)) := hD
    refine lv_iconst (v := 0) hx hb dX0_begin_15 (by decide) ?_
    exact w_iret (S := CFt) (w := wX ad cI cZ) (home, n, lp, lb, tr, ver, true, sg, sb) hx hb hr hloc hK hP hD hS dX0_begin_16 (by
          unfold cf_begin
          rw [if_neg (by show ¬ tx = true; rw [htx]; decide)]
          rfl)
  · have htx := cf_b_1 c4
    refine lv_bipush (v := (-2)) hx hb dX0_begin_7 (by decide) ?_
    exact w_iret (S := CFt) (w := wX ad cI cZ) (home, n, lp, lb, tr, ver, tx, sg, sb) hx hb hr hloc hK hP hD hS dX0_begin_9 (by
          unfold cf_begin
          rw [if_pos (show cf_tx (home, n, lp, lb, tr, ver, tx, sg, sb) = true from htx)])
set_option maxHeartbeats 4000000 in
set_option maxRecDepth 100000 in
/-- commit() -/
theorem mX0_commit (l : Launch) (D : va_G) (ad : Nat → Nat) (cI cZ : ClassId) (u : CFt) (hu : cf_ok u) : MCi l yX0_commit cX0_commit 1 ({ frames := 3, cells := 0, slots := 0, locals := 66 }) D (tyW cI cZ) [.ref (ad 0)] (wX ad cI cZ u) (fun r u1 => (r, u1) = cf_commit u) (wX ad cI cZ) := by
  obtain ⟨home, n, lp, lb, tr, ver, tx, sg, sb⟩ := u
  obtain ⟨hn, hlp⟩ := hu
  unfold MCi
  refine mc_start (Qk := fun A => va_Qi _ (fun u t => bW D (tyW cI cZ) A (wX ad cI cZ u) t) A) (by decide) (Nat.le_of_ble_eq_true rfl) ?_
  intro p e s m below meth c A hx hb hr hml hown hts hloc hnm hK hP hD hA hS ls hl
  have hown : s.vm.findClass RX0 = some m.cls := hown
  have hl : lv_has ls 1 [(0, .ref (ad 0))] := hl
  refine lv_aload_n hx hb dX0_commit_0 rfl (lv_at hl 0 rfl) ?_
  refine va_get (D := D) (ci := 0) (v := .int (cf_b tx)) (C := RX0) (T := TX0) (N := 9) hx hb hts in_X0 hown hK hP 0 rfl rfl 6 (by decide) (hts _ q27) (fun _ h9 => h9) rfl dX0_commit_1 ?_
  refine lv_if_ne (tgt := 10) hx hb dX0_commit_4 (by decide) (fun c4 => ?_) (fun c4 => ?_)
  · have htx := cf_b_1 c4
    refine lv_aload_n hx hb dX0_commit_10 rfl (lv_at hl 0 rfl) ?_
    refine lv_iconst (v := cf_b false) hx hb dX0_commit_11 (by rfl) ?_
    refine va_put (D := D) (ci := 0) (v := .int (cf_b false)) (ty := .boolean) (C := RX0) (T := TX0) (N := 9) hx hb hts in_X0 tyX0 tyX0_ok nmX0 hown hK hP hD hS 0 rfl rfl 6 (by decide) (hts _ q27) (fun _ h9 => h9) rfl (by decide +kernel) (cf_b_fit _).1 (cf_b_fit _).2 (Nat.le_of_ble_eq_true rfl) dX0_commit_12 (fun H locs hP hD hS => ?_)
    have hP : va_P D vwCl (wX ad cI cZ (home, n, lp, lb, tr, ver, false, sg, sb)) H := hP
    have hD : va_D A (wX ad cI cZ (home, n, lp, lb, tr, ver, false, sg, sb)) := hD
    refine lv_aload_n hx hb dX0_commit_15 rfl (lv_at hl 0 rfl) ?_
    refine w_callv (wr := []) (mX0_writeLog l D ad cI cZ (home, n, lp, lb, tr, ver, false, sg, sb) ⟨hn, hlp⟩) [0, 1, 2, 3, 4, 5] [] 0 ⟨hx, hb, hml, hown, hts⟩ (cwV 0 hts (lw_V q67 q69 qs2 q11 q70) rfl rfl rfl (by decide +kernel) ⟨Nat.le_of_ble_eq_true rfl, Nat.le_of_ble_eq_true rfl⟩) hP hD hK hS hA rfl rfl rfl rfl (by decide) rfl rfl rfl hl.1 rfl (Nat.le_of_ble_eq_true rfl) dX0_commit_16 ⟨Nat.zero_le _, Nat.zero_le _⟩ (fun u H locs hw hP hD hS => ?_)
    obtain ⟨home2, n2, lp2, lb2, tr2, ver2, tx2, sg2, sb2⟩ := u
    have hP : va_P D vwCl (wX ad cI cZ (home2, n2, lp2, lb2, tr2, ver2, tx2, sg2, sb2)) H := hP
    have hD : va_D A (wX ad cI cZ (home2, n2, lp2, lb2, tr2, ver2, tx2, sg2, sb2)) := hD
    refine lv_iconst (v := 0) hx hb dX0_commit_19 (by decide) ?_
    exact w_iret (S := CFt) (w := wX ad cI cZ) (home2, n2, lp2, lb2, tr2, ver2, tx2, sg2, sb2) hx hb hr hloc hK hP hD hS dX0_commit_20 (by
          unfold cf_commit
          rw [if_pos (show cf_tx (home, n, lp, lb, tr, ver, tx, sg, sb) = true from htx), hw]
          rfl)
  · have htx := cf_b_0 c4
    refine lv_bipush (v := (-2)) hx hb dX0_commit_7 (by decide) ?_
    exact w_iret (S := CFt) (w := wX ad cI cZ) (home, n, lp, lb, tr, ver, tx, sg, sb) hx hb hr hloc hK hP hD hS dX0_commit_9 (by
          unfold cf_commit
          rw [if_neg (by show ¬ tx = true; rw [htx]; decide)])
set_option maxHeartbeats 4000000 in
set_option maxRecDepth 100000 in
/-- abort() -/
theorem mX0_abort (l : Launch) (D : va_G) (ad : Nat → Nat) (cI cZ : ClassId) (u : CFt) (hu : cf_ok u) : MCi l yX0_abort cX0_abort 1 ({ frames := 1, cells := 0, slots := 0, locals := 21 }) D (tyW cI cZ) [.ref (ad 0)] (wX ad cI cZ u) (fun r u1 => (r, u1) = cf_abort u) (wX ad cI cZ) := by
  obtain ⟨home, n, lp, lb, tr, ver, tx, sg, sb⟩ := u
  obtain ⟨hn, hlp⟩ := hu
  unfold MCi
  refine mc_start (Qk := fun A => va_Qi _ (fun u t => bW D (tyW cI cZ) A (wX ad cI cZ u) t) A) (by decide) (Nat.le_of_ble_eq_true rfl) ?_
  intro p e s m below meth c A hx hb hr hml hown hts hloc hnm hK hP hD hA hS ls hl
  have hown : s.vm.findClass RX0 = some m.cls := hown
  have hl : lv_has ls 1 [(0, .ref (ad 0))] := hl
  refine lv_aload_n hx hb dX0_abort_0 rfl (lv_at hl 0 rfl) ?_
  refine va_get (D := D) (ci := 0) (v := .int (cf_b tx)) (C := RX0) (T := TX0) (N := 9) hx hb hts in_X0 hown hK hP 0 rfl rfl 6 (by decide) (hts _ q27) (fun _ h9 => h9) rfl dX0_abort_1 ?_
  refine lv_if_ne (tgt := 10) hx hb dX0_abort_4 (by decide) (fun c4 => ?_) (fun c4 => ?_)
  · have htx := cf_b_1 c4
    refine lv_aload_n hx hb dX0_abort_10 rfl (lv_at hl 0 rfl) ?_
    refine lv_iconst (v := cf_b false) hx hb dX0_abort_11 (by rfl) ?_
    refine va_put (D := D) (ci := 0) (v := .int (cf_b false)) (ty := .boolean) (C := RX0) (T := TX0) (N := 9) hx hb hts in_X0 tyX0 tyX0_ok nmX0 hown hK hP hD hS 0 rfl rfl 6 (by decide) (hts _ q27) (fun _ h9 => h9) rfl (by decide +kernel) (cf_b_fit _).1 (cf_b_fit _).2 (Nat.le_of_ble_eq_true rfl) dX0_abort_12 (fun H locs hP hD hS => ?_)
    have hP : va_P D vwCl (wX ad cI cZ (home, n, lp, lb, tr, ver, false, sg, sb)) H := hP
    have hD : va_D A (wX ad cI cZ (home, n, lp, lb, tr, ver, false, sg, sb)) := hD
    refine lv_aload_n hx hb dX0_abort_15 rfl (lv_at hl 0 rfl) ?_
    refine w_callv (wr := []) (mX0_unstage l D ad cI cZ (home, n, lp, lb, tr, ver, false, sg, sb)) [0, 1, 2, 3, 4, 5] [] 0 ⟨hx, hb, hml, hown, hts⟩ (cwV 0 hts (lw_V q79 q81 qs5 q11 q82) rfl rfl rfl (by decide +kernel) ⟨Nat.le_of_ble_eq_true rfl, Nat.le_of_ble_eq_true rfl⟩) hP hD hK hS hA rfl rfl rfl rfl (by decide) rfl rfl rfl hl.1 rfl (Nat.le_of_ble_eq_true rfl) dX0_abort_16 ⟨Nat.zero_le _, Nat.zero_le _⟩ (fun u H locs hw hP hD hS => ?_)
    obtain ⟨home2, n2, lp2, lb2, tr2, ver2, tx2, sg2, sb2⟩ := u
    have hP : va_P D vwCl (wX ad cI cZ (home2, n2, lp2, lb2, tr2, ver2, tx2, sg2, sb2)) H := hP
    have hD : va_D A (wX ad cI cZ (home2, n2, lp2, lb2, tr2, ver2, tx2, sg2, sb2)) := hD
    refine lv_iconst (v := 0) hx hb dX0_abort_19 (by decide) ?_
    exact w_iret (S := CFt) (w := wX ad cI cZ) (home2, n2, lp2, lb2, tr2, ver2, tx2, sg2, sb2) hx hb hr hloc hK hP hD hS dX0_abort_20 (by
          unfold cf_abort
          rw [if_pos (show cf_tx (home, n, lp, lb, tr, ver, tx, sg, sb) = true from htx), hw]
          rfl)
  · have htx := cf_b_0 c4
    refine lv_bipush (v := (-2)) hx hb dX0_abort_7 (by decide) ?_
    exact w_iret (S := CFt) (w := wX ad cI cZ) (home, n, lp, lb, tr, ver, tx, sg, sb) hx hb hr hloc hK hP hD hS dX0_abort_9 (by
          unfold cf_abort
          rw [if_neg (by show ¬ tx = true; rw [htx]; decide)])
set_option maxHeartbeats 4000000 in
set_option maxRecDepth 100000 in
/-- verify(code) -/
theorem mX0_verify (l : Launch) (D : va_G) (ad : Nat → Nat) (cI cZ : ClassId) (u : CFt) (cd : Int32) (hu : cf_ok u) : MCi l yX0_verify cX0_verify 3 ({ frames := 1, cells := 0, slots := 0, locals := 23 }) D (tyW cI cZ) [.ref (ad 0), .int cd] (wX ad cI cZ u) (fun r u1 => (r, u1) = cf_verify u cd) (wX ad cI cZ) := by
  obtain ⟨home, n, lp, lb, tr, ver, tx, sg, sb⟩ := u
  obtain ⟨hn, hlp⟩ := hu
  unfold MCi
  refine mc_start (Qk := fun A => va_Qi _ (fun u t => bW D (tyW cI cZ) A (wX ad cI cZ u) t) A) (by decide) (Nat.le_of_ble_eq_true rfl) ?_
  intro p e s m below meth c A hx hb hr hml hown hts hloc hnm hK hP hD hA hS ls hl
  have hown : s.vm.findClass RX0 = some m.cls := hown
  have hl : lv_has ls 3 [(0, .ref (ad 0)), (1, .int cd)] := hl
  refine lv_aload_n hx hb dX0_verify_0 rfl (lv_at hl 0 rfl) ?_
  refine va_get (D := D) (ci := 0) (v := .int tr) (C := RX0) (T := TX0) (N := 9) hx hb hts in_X0 hown hK hP 0 rfl rfl 4 (by decide) (hts _ q25) (fun _ h9 => h9) rfl dX0_verify_1 ?_
  refine lv_if_ne (tgt := 10) hx hb dX0_verify_4 (by decide) (fun c4 => ?_) (fun c4 => ?_)
  · refine lv_aload_n hx hb dX0_verify_10 rfl (lv_at hl 0 rfl) ?_
    refine lv_dup hx hb dX0_verify_11 rfl ?_
    refine va_get (D := D) (ci := 0) (v := .int tr) (C := RX0) (T := TX0) (N := 9) hx hb hts in_X0 hown hK hP 0 rfl rfl 4 (by decide) (hts _ q25) (fun _ h9 => h9) rfl dX0_verify_12 ?_
    refine lv_iconst (v := 1) hx hb dX0_verify_15 (by decide) ?_
    refine lv_isub hx hb dX0_verify_16 ?_
    refine va_put (D := D) (ci := 0) (v := .int (tr - 1)) (ty := .int) (C := RX0) (T := TX0) (N := 9) hx hb hts in_X0 tyX0 tyX0_ok nmX0 hown hK hP hD hS 0 rfl rfl 4 (by decide) (hts _ q25) (fun _ h9 => h9) rfl (by decide +kernel) rfl rfl (Nat.le_of_ble_eq_true rfl) dX0_verify_17 (fun H locs hP hD hS => ?_)
    have hP : va_P D vwCl (wX ad cI cZ (home, n, lp, lb, (tr - 1), ver, tx, sg, sb)) H := hP
    have hD : va_D A (wX ad cI cZ (home, n, lp, lb, (tr - 1), ver, tx, sg, sb)) := hD
    refine lv_aload_n hx hb dX0_verify_20 rfl (lv_at hl 0 rfl) ?_
    refine lv_iconst (v := cf_b false) hx hb dX0_verify_21 (by rfl) ?_
    refine va_put (D := D) (ci := 0) (v := .int (cf_b false)) (ty := .boolean) (C := RX0) (T := TX0) (N := 9) hx hb hts in_X0 tyX0 tyX0_ok nmX0 hown hK hP hD hS 0 rfl rfl 5 (by decide) (hts _ q26) (fun _ h9 => h9) rfl (by decide +kernel) (cf_b_fit _).1 (cf_b_fit _).2 (Nat.le_of_ble_eq_true rfl) dX0_verify_22 (fun H locs hP hD hS => ?_)
    have hP : va_P D vwCl (wX ad cI cZ (home, n, lp, lb, (tr - 1), false, tx, sg, sb)) H := hP
    have hD : va_D A (wX ad cI cZ (home, n, lp, lb, (tr - 1), false, tx, sg, sb)) := hD
    refine lv_aload_n hx hb dX0_verify_25 rfl (lv_at hl 0 rfl) ?_
    refine lv_bipush (v := nI 13) hx hb dX0_verify_26 (by rfl) ?_
    refine lv_iconst (v := nI 0) hx hb dX0_verify_28 (by rfl) ?_
    refine w_calli (wr := []) (mX0_byteAt l D ad cI cZ (home, n, lp, lb, (tr - 1), false, tx, sg, sb) 13 0 ⟨hn, hlp⟩ (by omega) (by omega)) [0, 1, 2, 3, 4, 5] [] 0 ⟨hx, hb, hml, hown, hts⟩ (cwV 2 hts (lw_V q59 q61 qs0 q11 q62) rfl rfl rfl (by decide +kernel) ⟨Nat.le_of_ble_eq_true rfl, Nat.le_of_ble_eq_true rfl⟩) hP hD hK hS hA rfl rfl rfl rfl (by decide) rfl rfl rfl hl.1 rfl (Nat.le_of_ble_eq_true rfl) dX0_verify_29 ⟨Nat.zero_le _, Nat.zero_le _⟩ (fun r u H locs hw hP hD hS => ?_)
    obtain ⟨rfl, rfl⟩ := hw
    have hP : va_P D vwCl (wX ad cI cZ (home, n, lp, lb, (tr - 1), false, tx, sg, sb)) H := hP
    have hD : va_D A (wX ad cI cZ (home, n, lp, lb, (tr - 1), false, tx, sg, sb)) := hD
    refine lv_sipush (v := 256) hx hb dX0_verify_32 (by decide) ?_
    refine lv_aload_n hx hb dX0_verify_35 rfl (lv_at hl 0 rfl) ?_
    refine lv_bipush (v := nI 13) hx hb dX0_verify_36 (by rfl) ?_
    refine lv_iconst (v := nI 1) hx hb dX0_verify_38 (by rfl) ?_
    refine w_calli (wr := []) (mX0_byteAt l D ad cI cZ (home, n, lp, lb, (tr - 1), false, tx, sg, sb) 13 1 ⟨hn, hlp⟩ (by omega) (by omega)) [0, 1, 2, 3, 4, 5] [] 0 ⟨hx, hb, hml, hown, hts⟩ (cwV 2 hts (lw_V q59 q61 qs0 q11 q62) rfl rfl rfl (by decide +kernel) ⟨Nat.le_of_ble_eq_true rfl, Nat.le_of_ble_eq_true rfl⟩) hP hD hK hS hA rfl rfl rfl rfl (by decide) rfl rfl rfl hl.1 rfl (Nat.le_of_ble_eq_true rfl) dX0_verify_39 ⟨Nat.zero_le _, Nat.zero_le _⟩ (fun r u H locs hw hP hD hS => ?_)
    obtain ⟨rfl, rfl⟩ := hw
    have hP : va_P D vwCl (wX ad cI cZ (home, n, lp, lb, (tr - 1), false, tx, sg, sb)) H := hP
    have hD : va_D A (wX ad cI cZ (home, n, lp, lb, (tr - 1), false, tx, sg, sb)) := hD
    refine lv_imul hx hb dX0_verify_42 ?_
    refine lv_iadd hx hb dX0_verify_43 ?_
    refine w_top (y := cf_own (home, n, lp, lb, tr, ver, tx, sg, sb)) rfl ?_
    refine lv_istore_n (lv' := [(2, .int (cf_own (home, n, lp, lb, tr, ver, tx, sg, sb))), (0, .ref (ad 0)), (1, .int cd)]) hx hb dX0_verify_44 rfl hl (by decide) rfl (fun ls hl => ?_)
    refine lv_iload_n hx hb dX0_verify_45 rfl (lv_at hl 0 rfl) ?_
    refine lv_iload_n hx hb dX0_verify_46 rfl (lv_at hl 2 rfl) ?_
    refine lv_icmp_ne (tgt := 60) hx hb dX0_verify_47 (by decide) (fun c47 => ?_) (fun c47 => ?_)
    · refine lv_aload_n hx hb dX0_verify_60 rfl (lv_at hl 1 rfl) ?_
      refine va_get (D := D) (ci := 0) (v := .int (tr - 1)) (C := RX0) (T := TX0) (N := 9) hx hb hts in_X0 hown hK hP 0 rfl rfl 4 (by decide) (hts _ q25) (fun _ h9 => h9) rfl dX0_verify_61 ?_
      exact w_iret (S := CFt) (w := wX ad cI cZ) (home, n, lp, lb, (tr - 1), false, tx, sg, sb) hx hb hr hloc hK hP hD hS dX0_verify_64 (by
              unfold cf_verify
              rw [if_neg (show ¬ cf_tr (home, n, lp, lb, tr, ver, tx, sg, sb) = 0 from c4), if_neg c47]
              rfl)
    · refine lv_aload_n hx hb dX0_verify_50 rfl (lv_at hl 1 rfl) ?_
      refine lv_iconst (v := 3) hx hb dX0_verify_51 (by decide) ?_
      refine va_put (D := D) (ci := 0) (v := .int 3) (ty := .int) (C := RX0) (T := TX0) (N := 9) hx hb hts in_X0 tyX0 tyX0_ok nmX0 hown hK hP hD hS 0 rfl rfl 4 (by decide) (hts _ q25) (fun _ h9 => h9) rfl (by decide +kernel) rfl rfl (Nat.le_of_ble_eq_true rfl) dX0_verify_52 (fun H locs hP hD hS => ?_)
      have hP : va_P D vwCl (wX ad cI cZ (home, n, lp, lb, 3, false, tx, sg, sb)) H := hP
      have hD : va_D A (wX ad cI cZ (home, n, lp, lb, 3, false, tx, sg, sb)) := hD
      refine lv_aload_n hx hb dX0_verify_55 rfl (lv_at hl 1 rfl) ?_
      refine lv_iconst (v := cf_b true) hx hb dX0_verify_56 (by rfl) ?_
      refine va_put (D := D) (ci := 0) (v := .int (cf_b true)) (ty := .boolean) (C := RX0) (T := TX0) (N := 9) hx hb hts in_X0 tyX0 tyX0_ok nmX0 hown hK hP hD hS 0 rfl rfl 5 (by decide) (hts _ q26) (fun _ h9 => h9) rfl (by decide +kernel) (cf_b_fit _).1 (cf_b_fit _).2 (Nat.le_of_ble_eq_true rfl) dX0_verify_57 (fun H locs hP hD hS => ?_)
      have hP : va_P D vwCl (wX ad cI cZ (home, n, lp, lb, 3, true, tx, sg, sb)) H := hP
      have hD : va_D A (wX ad cI cZ (home, n, lp, lb, 3, true, tx, sg, sb)) := hD
      refine lv_aload_n hx hb dX0_verify_60 rfl (lv_at hl 1 rfl) ?_
      refine va_get (D := D) (ci := 0) (v := .int 3) (C := RX0) (T := TX0) (N := 9) hx hb hts in_X0 hown hK hP 0 rfl rfl 4 (by decide) (hts _ q25) (fun _ h9 => h9) rfl dX0_verify_61 ?_
      exact w_iret (S := CFt) (w := wX ad cI cZ) (home, n, lp, lb, 3, true, tx, sg, sb) hx hb hr hloc hK hP hD hS dX0_verify_64 (by
              unfold cf_verify
              rw [if_neg (show ¬ cf_tr (home, n, lp, lb, tr, ver, tx, sg, sb) = 0 from c4), if_pos c47]
              rfl)
  · refine lv_bipush (v := (-4)) hx hb dX0_verify_7 (by decide) ?_
    exact w_iret (S := CFt) (w := wX ad cI cZ) (home, n, lp, lb, tr, ver, tx, sg, sb) hx hb hr hloc hK hP hD hS dX0_verify_9 (by
          unfold cf_verify
          rw [if_pos (show cf_tr (home, n, lp, lb, tr, ver, tx, sg, sb) = 0 from c4)])
set_option maxHeartbeats 4000000 in
set_option maxRecDepth 100000 in
/-- change(newCode) -/
theorem mX0_change (l : Launch) (D : va_G) (ad : Nat → Nat) (cI cZ : ClassId) (u : CFt) (cd : Int32) (hu : cf_ok u) : MCi l yX0_change cX0_change 2 ({ frames := 3, cells := 0, slots := 0, locals := 66 }) D (tyW cI cZ) [.ref (ad 0), .int cd] (wX ad cI cZ u) (fun r u1 => (r, u1) = cf_change u cd) (wX ad cI cZ) := by
  obtain ⟨home, n, lp, lb, tr, ver, tx, sg, sb⟩ := u
  obtain ⟨hn, hlp⟩ := hu
  unfold MCi
  refine mc_start (Qk := fun A => va_Qi _ (fun u t => bW D (tyW cI cZ) A (wX ad cI cZ u) t) A) (by decide) (Nat.le_of_ble_eq_true rfl) ?_
  intro p e s m below meth c A hx hb hr hml hown hts hloc hnm hK hP hD hA hS ls hl
  have hown : s.vm.findClass RX0 = some m.cls := hown
  have hl : lv_has ls 2 [(0, .ref (ad 0)), (1, .int cd)] := hl
  refine lv_iload_n hx hb dX0_change_0 rfl (lv_at hl 1 rfl) ?_
  refine lv_if_lt (tgt := 11) hx hb dX0_change_1 (by decide) (fun c1 => ?_) (fun c1 => ?_)
  · refine lv_iconst (v := (-1)) hx hb dX0_change_11 (by decide) ?_
    exact w_iret (S := CFt) (w := wX ad cI cZ) (home, n, lp, lb, tr, ver, tx, sg, sb) hx hb hr hloc hK hP hD hS dX0_change_12 (if_pos (Or.inl c1)).symm
  · refine lv_iload_n hx hb dX0_change_4 rfl (lv_at hl 1 rfl) ?_
    refine lv_sipush (v := 9999) hx hb dX0_change_5 (by decide) ?_
    refine lv_icmp_le (tgt := 13) hx hb dX0_change_8 (by decide) (fun c8 => ?_) (fun c8 => ?_)
    · have hbad : ¬ (cd < 0 ∨ 9999 < cd) := by
        rintro (q | q)
        · exact c1 q
        · exact Int32.not_lt.mpr c8 q
      refine lv_aload_n hx hb dX0_change_13 rfl (lv_at hl 0 rfl) ?_
      refine va_get (D := D) (ci := 0) (v := .int (cf_b ver)) (C := RX0) (T := TX0) (N := 9) hx hb hts in_X0 hown hK hP 0 rfl rfl 5 (by decide) (hts _ q26) (fun _ h9 => h9) rfl dX0_change_14 ?_
      refine lv_if_ne (tgt := 23) hx hb dX0_change_17 (by decide) (fun c17 => ?_) (fun c17 => ?_)
      · have hver := cf_b_1 c17
        refine lv_aload_n hx hb dX0_change_23 rfl (lv_at hl 0 rfl) ?_
        refine va_get (D := D) (ci := 0) (v := .int (cf_b tx)) (C := RX0) (T := TX0) (N := 9) hx hb hts in_X0 hown hK hP 0 rfl rfl 6 (by decide) (hts _ q27) (fun _ h9 => h9) rfl dX0_change_24 ?_
        refine lv_if_eq (tgt := 33) hx hb dX0_change_27 (by decide) (fun c27 => ?_) (fun c27 => ?_)
        · have htx := cf_b_0 c27
          refine lv_aload_n hx hb dX0_change_33 rfl (lv_at hl 0 rfl) ?_
          refine lv_bipush (v := nI 13) hx hb dX0_change_34 (by rfl) ?_
          refine w_callv (wr := []) (mX0_stage l D ad cI cZ (home, n, lp, lb, tr, ver, tx, sg, sb) 13 ⟨hn, hlp⟩ (by omega)) [0, 1, 2, 3, 4, 5] [] 0 ⟨hx, hb, hml, hown, hts⟩ (cwV 1 hts (lw_V q63 q65 qs1 q11 q66) rfl rfl rfl (by decide +kernel) ⟨Nat.le_of_ble_eq_true rfl, Nat.le_of_ble_eq_true rfl⟩) hP hD hK hS hA rfl rfl rfl rfl (by decide) rfl rfl rfl hl.1 rfl (Nat.le_of_ble_eq_true rfl) dX0_change_36 ⟨Nat.zero_le _, Nat.zero_le _⟩ (fun u H locs hw1 hP hD hS => ?_)
          obtain ⟨home1, n1, lp1, lb1, tr1, ver1, tx1, sg1, sb1⟩ := u
          have hP : va_P D vwCl (wX ad cI cZ (home1, n1, lp1, lb1, tr1, ver1, tx1, sg1, sb1)) H := hP
          have hD : va_D A (wX ad cI cZ (home1, n1, lp1, lb1, tr1, ver1, tx1, sg1, sb1)) := hD
          have hok : cf_ok (home1, n1, lp1, lb1, tr1, ver1, tx1, sg1, sb1) := by rw [hw1]; exact cf_ok_stage 13 ⟨hn, hlp⟩
          refine lv_aload_n hx hb dX0_change_39 rfl (lv_at hl 0 rfl) ?_
          refine va_get (D := D) (ci := 0) (v := .ref (ad 5)) (C := RX0) (T := TX0) (N := 9) hx hb hts in_X0 hown hK hP 0 rfl rfl 8 (by decide) (hts _ q29) (fun _ h9 => h9) rfl dX0_change_40 ?_
          refine lv_bipush (v := nI 104) hx hb dX0_change_43 (by rfl) ?_
          refine lv_iload_n hx hb dX0_change_45 rfl (lv_at hl 1 rfl) ?_
          refine lv_sipush (v := 255) hx hb dX0_change_46 (by decide) ?_
          refine lv_iand hx hb dX0_change_49 ?_
          refine na_iast (f := sb1) (g := cf_up sb1 104 (cd &&& 255)) (x := (cd &&& 255)) hx hb hK hP hD hS 5 0 rfl rfl (j := 104) (by omega) (by decide) rfl dX0_change_50 (fun H locs hP hD hS => ?_)
          have hP : va_P D vwCl (wX ad cI cZ (home1, n1, lp1, lb1, tr1, ver1, tx1, sg1, cf_up sb1 104 (cd &&& 255))) H := hP
          have hD : va_D A (wX ad cI cZ (home1, n1, lp1, lb1, tr1, ver1, tx1, sg1, cf_up sb1 104 (cd &&& 255))) := hD
          refine lv_aload_n hx hb dX0_change_51 rfl (lv_at hl 0 rfl) ?_
          refine va_get (D := D) (ci := 0) (v := .ref (ad 5)) (C := RX0) (T := TX0) (N := 9) hx hb hts in_X0 hown hK hP 0 rfl rfl 8 (by decide) (hts _ q29) (fun _ h9 => h9) rfl dX0_change_52 ?_
          refine lv_bipush (v := nI 105) hx hb dX0_change_55 (by rfl) ?_
          refine lv_iload_n hx hb dX0_change_57 rfl (lv_at hl 1 rfl) ?_
          refine lv_bipush (v := 8) hx hb dX0_change_58 (by decide) ?_
          refine lv_ishr hx hb dX0_change_60 ?_
          refine na_iast (f := cf_up sb1 104 (cd &&& 255)) (g := cf_up (cf_up sb1 104 (cd &&& 255)) 105 (cd >>> (8 &&& 31))) (x := (cd >>> (8 &&& 31))) hx hb hK hP hD hS 5 0 rfl rfl (j := 105) (by omega) (by decide) rfl dX0_change_61 (fun H locs hP hD hS => ?_)
          have hP : va_P D vwCl (wX ad cI cZ (home1, n1, lp1, lb1, tr1, ver1, tx1, sg1, cf_up (cf_up sb1 104 (cd &&& 255)) 105 (cd >>> (8 &&& 31)))) H := hP
          have hD : va_D A (wX ad cI cZ (home1, n1, lp1, lb1, tr1, ver1, tx1, sg1, cf_up (cf_up sb1 104 (cd &&& 255)) 105 (cd >>> (8 &&& 31)))) := hD
          refine lv_aload_n hx hb dX0_change_62 rfl (lv_at hl 0 rfl) ?_
          refine w_callv (wr := []) (mX0_writeLog l D ad cI cZ (home1, n1, lp1, lb1, tr1, ver1, tx1, sg1, cf_up (cf_up sb1 104 (cd &&& 255)) 105 (cd >>> (8 &&& 31))) hok) [0, 1, 2, 3, 4, 5] [] 0 ⟨hx, hb, hml, hown, hts⟩ (cwV 0 hts (lw_V q67 q69 qs2 q11 q70) rfl rfl rfl (by decide +kernel) ⟨Nat.le_of_ble_eq_true rfl, Nat.le_of_ble_eq_true rfl⟩) hP hD hK hS hA rfl rfl rfl rfl (by decide) rfl rfl rfl hl.1 rfl (Nat.le_of_ble_eq_true rfl) dX0_change_63 ⟨Nat.zero_le _, Nat.zero_le _⟩ (fun u H locs hw hP hD hS => ?_)
          obtain ⟨home2, n2, lp2, lb2, tr2, ver2, tx2, sg2, sb2⟩ := u
          have hP : va_P D vwCl (wX ad cI cZ (home2, n2, lp2, lb2, tr2, ver2, tx2, sg2, sb2)) H := hP
          have hD : va_D A (wX ad cI cZ (home2, n2, lp2, lb2, tr2, ver2, tx2, sg2, sb2)) := hD
          refine lv_iconst (v := 0) hx hb dX0_change_66 (by decide) ?_
          exact w_iret (S := CFt) (w := wX ad cI cZ) (home2, n2, lp2, lb2, tr2, ver2, tx2, sg2, sb2) hx hb hr hloc hK hP hD hS dX0_change_67 (by
                      unfold cf_change
                      rw [if_neg hbad, if_pos (show cf_ver (home, n, lp, lb, tr, ver, tx, sg, sb) = true from hver), if_neg (by show ¬ tx = true; rw [htx]; decide), ← hw1, hw]
                      rfl)
        · have htx := cf_b_1 c27
          refine lv_bipush (v := (-2)) hx hb dX0_change_30 (by decide) ?_
          exact w_iret (S := CFt) (w := wX ad cI cZ) (home, n, lp, lb, tr, ver, tx, sg, sb) hx hb hr hloc hK hP hD hS dX0_change_32 (by
                      unfold cf_change
                      rw [if_neg hbad, if_pos (show cf_ver (home, n, lp, lb, tr, ver, tx, sg, sb) = true from hver), if_pos (show cf_tx (home, n, lp, lb, tr, ver, tx, sg, sb) = true from htx)])
      · have hver := cf_b_0 c17
        refine lv_bipush (v := (-3)) hx hb dX0_change_20 (by decide) ?_
        exact w_iret (S := CFt) (w := wX ad cI cZ) (home, n, lp, lb, tr, ver, tx, sg, sb) hx hb hr hloc hK hP hD hS dX0_change_22 (by
                  unfold cf_change
                  rw [if_neg hbad, if_neg (by show ¬ ver = true; rw [hver]; decide)])
    · refine lv_iconst (v := (-1)) hx hb dX0_change_11 (by decide) ?_
      exact w_iret (S := CFt) (w := wX ad cI cZ) (home, n, lp, lb, tr, ver, tx, sg, sb) hx hb hr hloc hK hP hD hS dX0_change_12 (if_pos (Or.inr (Int32.not_le.mp c8))).symm
set_option maxHeartbeats 4000000 in
set_option maxRecDepth 100000 in
/-- torn(marked, pages) -/
theorem mX0_torn (l : Launch) (D : va_G) (ad : Nat → Nat) (cI cZ : ClassId) (u : CFt) (mk : Bool) (pgs : Int32) (hu : cf_ok u) : MCv l yX0_torn cX0_torn 4 ({ frames := 3, cells := 0, slots := 0, locals := 63 }) D (tyW cI cZ) [.ref (ad 0), .int (cf_b mk), .int pgs] (wX ad cI cZ u) (fun u1 => u1 = cf_torn u mk pgs) (wX ad cI cZ) := by
  obtain ⟨home, n, lp, lb, tr, ver, tx, sg, sb⟩ := u
  obtain ⟨hn, hlp⟩ := hu
  unfold MCv
  refine mc_start (Qk := fun A => va_Qv _ (fun u t => bW D (tyW cI cZ) A (wX ad cI cZ u) t) A) (by decide) (Nat.le_of_ble_eq_true rfl) ?_
  intro p e s m below meth c A hx hb hr hml hown hts hloc hnm hK hP hD hA hS ls hl
  have hown : s.vm.findClass RX0 = some m.cls := hown
  have hl : lv_has ls 4 [(0, .ref (ad 0)), (1, .int (cf_b mk)), (2, .int pgs)] := hl
  refine lv_iload_n hx hb dX0_torn_0 rfl (lv_at hl 1 rfl) ?_
  refine lv_if_ne (tgt := 9) hx hb dX0_torn_1 (by decide) (fun c1 => ?_) (fun c1 => ?_)
  · have hmk := cf_b_1 c1
    refine lv_iconst (v := nI 0) hx hb dX0_torn_9 (by rfl) ?_
    refine lv_istore_n (lv' := [(3, .int (nI 0)), (0, .ref (ad 0)), (1, .int (cf_b mk)), (2, .int pgs)]) hx hb dX0_torn_10 rfl hl (by decide) rfl (fun ls hl => ?_)
    refine w_loop (pc := 11) (fun k H locs ls => ∃ i : Nat, i + k = (min n pgs.toNatClampNeg) ∧ va_P D vwCl (wX ad cI cZ (cf_hall home lp lb i, n, lp, lb, tr, ver, tx, sg, sb)) H ∧ va_D A (wX ad cI cZ (cf_hall home lp lb i, n, lp, lb, tr, ver, tx, sg, sb)) ∧ va_S A s.heap H locs ∧ lv_has ls 4 [(0, .ref (ad 0)), (1, .int (cf_b mk)), (2, .int pgs), (3, .int (nI i))]) (fun k ih H locs ls hI => ?_) (min n pgs.toNatClampNeg) _ _ _ ⟨0, (by omega), hP, hD, hS, lv_sub hl [1, 2, 3, 0] rfl⟩
    obtain ⟨i, hik, hP, hD, hS, hl⟩ := hI
    refine lv_iload_n hx hb dX0_torn_11 rfl (lv_at hl 3 rfl) ?_
    refine lv_aload_n hx hb dX0_torn_12 rfl (lv_at hl 0 rfl) ?_
    refine va_get (D := D) (ci := 0) (v := .int (nI n)) (C := RX0) (T := TX0) (N := 9) hx hb hts in_X0 hown hK hP 0 rfl rfl 1 (by decide) (hts _ q22) (fun _ h9 => h9) rfl dX0_torn_13 ?_
    refine lv_icmp_ge (tgt := 35) hx hb dX0_torn_16 (by decide) (fun c16 => ?_) (fun c16 => ?_)
    · have hin := nn_leE (by omega) (by omega) c16
      rw [show i = (min n pgs.toNatClampNeg) by omega] at hP hD
      refine lv_aload_n hx hb dX0_torn_35 rfl (lv_at hl 0 rfl) ?_
      refine w_callv (wr := []) (mX0_start l D ad cI cZ (cf_hall home lp lb (min n pgs.toNatClampNeg), n, lp, lb, tr, ver, tx, sg, sb) ⟨by omega, hlp⟩) [0, 1, 2, 3, 4, 5] [] 0 ⟨hx, hb, hml, hown, hts⟩ (cwV 0 hts (lw_V q119 q121 qs7 q11 q122) rfl rfl rfl (by decide +kernel) ⟨Nat.le_of_ble_eq_true rfl, Nat.le_of_ble_eq_true rfl⟩) hP hD hK hS hA rfl rfl rfl rfl (by decide) rfl rfl rfl hl.1 rfl (Nat.le_of_ble_eq_true rfl) dX0_torn_36 ⟨Nat.zero_le _, Nat.zero_le _⟩ (fun u H locs hw hP hD hS => ?_)
      subst hw
      have hP : va_P D vwCl (wX ad cI cZ (cf_hall (cf_hall home lp lb (min n pgs.toNatClampNeg)) lp lb n, 0, lp, lb, tr, false, false, cf_unst sg, sb)) H := hP
      have hD : va_D A (wX ad cI cZ (cf_hall (cf_hall home lp lb (min n pgs.toNatClampNeg)) lp lb n, 0, lp, lb, tr, false, false, cf_unst sg, sb)) := hD
      exact w_vret (S := CFt) (w := wX ad cI cZ) (cf_hall (cf_hall home lp lb (min n pgs.toNatClampNeg)) lp lb n, 0, lp, lb, tr, false, false, cf_unst sg, sb) hx hb hr hloc hK hP hD hS dX0_torn_39 (by
              rw [hmk]
              rfl)
    · have hin := nn_nleE (by omega) c16
      refine lv_iload_n hx hb dX0_torn_19 rfl (lv_at hl 3 rfl) ?_
      refine lv_iload_n hx hb dX0_torn_20 rfl (lv_at hl 2 rfl) ?_
      refine lv_icmp_ge (tgt := 35) hx hb dX0_torn_21 (by decide) (fun c21 => ?_) (fun c21 => ?_)
      · have hin2 := nn_pgle (by omega) c21
        rw [show i = (min n pgs.toNatClampNeg) by omega] at hP hD
        refine lv_aload_n hx hb dX0_torn_35 rfl (lv_at hl 0 rfl) ?_
        refine w_callv (wr := []) (mX0_start l D ad cI cZ (cf_hall home lp lb (min n pgs.toNatClampNeg), n, lp, lb, tr, ver, tx, sg, sb) ⟨by omega, hlp⟩) [0, 1, 2, 3, 4, 5] [] 0 ⟨hx, hb, hml, hown, hts⟩ (cwV 0 hts (lw_V q119 q121 qs7 q11 q122) rfl rfl rfl (by decide +kernel) ⟨Nat.le_of_ble_eq_true rfl, Nat.le_of_ble_eq_true rfl⟩) hP hD hK hS hA rfl rfl rfl rfl (by decide) rfl rfl rfl hl.1 rfl (Nat.le_of_ble_eq_true rfl) dX0_torn_36 ⟨Nat.zero_le _, Nat.zero_le _⟩ (fun u H locs hw hP hD hS => ?_)
        subst hw
        have hP : va_P D vwCl (wX ad cI cZ (cf_hall (cf_hall home lp lb (min n pgs.toNatClampNeg)) lp lb n, 0, lp, lb, tr, false, false, cf_unst sg, sb)) H := hP
        have hD : va_D A (wX ad cI cZ (cf_hall (cf_hall home lp lb (min n pgs.toNatClampNeg)) lp lb n, 0, lp, lb, tr, false, false, cf_unst sg, sb)) := hD
        exact w_vret (S := CFt) (w := wX ad cI cZ) (cf_hall (cf_hall home lp lb (min n pgs.toNatClampNeg)) lp lb n, 0, lp, lb, tr, false, false, cf_unst sg, sb) hx hb hr hloc hK hP hD hS dX0_torn_39 (by
                  rw [hmk]
                  rfl)
      · have hin2 := nn_pglt (by omega) c21
        refine lv_aload_n hx hb dX0_torn_24 rfl (lv_at hl 0 rfl) ?_
        refine lv_iload_n hx hb dX0_torn_25 rfl (lv_at hl 3 rfl) ?_
        refine w_callv (wr := []) (mX0_bringHome l D ad cI cZ (cf_hall home lp lb i, n, lp, lb, tr, ver, tx, sg, sb) i ⟨by omega, hlp⟩ (by omega)) [0, 1, 2, 3, 4, 5] [] 0 ⟨hx, hb, hml, hown, hts⟩ (cwV 1 hts (lw_V q75 q77 qs4 q11 q78) rfl rfl rfl (by decide +kernel) ⟨Nat.le_of_ble_eq_true rfl, Nat.le_of_ble_eq_true rfl⟩) hP hD hK hS hA rfl rfl rfl rfl (by decide) rfl rfl rfl hl.1 rfl (Nat.le_of_ble_eq_true rfl) dX0_torn_26 ⟨Nat.zero_le _, Nat.zero_le _⟩ (fun u H locs hw hP hD hS => ?_)
        subst hw
        have hP : va_P D vwCl (wX ad cI cZ (cf_hall home lp lb (i + 1), n, lp, lb, tr, ver, tx, sg, sb)) H := hP
        have hD : va_D A (wX ad cI cZ (cf_hall home lp lb (i + 1), n, lp, lb, tr, ver, tx, sg, sb)) := hD
        refine lv_iinc (v := nI (i + 1)) (lv' := [(3, .int (nI (i + 1))), (0, .ref (ad 0)), (1, .int (cf_b mk)), (2, .int pgs)]) hx hb dX0_torn_29 hl (k := 3) rfl (nI_add _ 1) (by decide) rfl (fun ls hl => ?_)
        refine lv_goto (tgt := 11) hx hb dX0_torn_32 (by decide) ?_
        exact ih (k - 1) (by omega) _ _ _ ⟨i + 1, by omega, hP, hD, hS, lv_sub hl [1, 2, 3, 0] rfl⟩
  · have hmk := cf_b_0 c1
    refine lv_aload_n hx hb dX0_torn_4 rfl (lv_at hl 0 rfl) ?_
    refine lv_iconst (v := nI 0) hx hb dX0_torn_5 (by rfl) ?_
    refine va_put (D := D) (ci := 0) (v := .int (nI 0)) (ty := .int) (C := RX0) (T := TX0) (N := 9) hx hb hts in_X0 tyX0 tyX0_ok nmX0 hown hK hP hD hS 0 rfl rfl 1 (by decide) (hts _ q22) (fun _ h9 => h9) rfl (by decide +kernel) rfl rfl (Nat.le_of_ble_eq_true rfl) dX0_torn_6 (fun H locs hP hD hS => ?_)
    have hP : va_P D vwCl (wX ad cI cZ (home, 0, lp, lb, tr, ver, tx, sg, sb)) H := hP
    have hD : va_D A (wX ad cI cZ (home, 0, lp, lb, tr, ver, tx, sg, sb)) := hD
    refine lv_iconst (v := nI 0) hx hb dX0_torn_9 (by rfl) ?_
    refine lv_istore_n (lv' := [(3, .int (nI 0)), (0, .ref (ad 0)), (1, .int (cf_b mk)), (2, .int pgs)]) hx hb dX0_torn_10 rfl hl (by decide) rfl (fun ls hl => ?_)
    refine w_loop (pc := 11) (fun k H locs ls => ∃ i : Nat, i + k = (min 0 pgs.toNatClampNeg) ∧ va_P D vwCl (wX ad cI cZ (cf_hall home lp lb i, 0, lp, lb, tr, ver, tx, sg, sb)) H ∧ va_D A (wX ad cI cZ (cf_hall home lp lb i, 0, lp, lb, tr, ver, tx, sg, sb)) ∧ va_S A s.heap H locs ∧ lv_has ls 4 [(0, .ref (ad 0)), (1, .int (cf_b mk)), (2, .int pgs), (3, .int (nI i))]) (fun k ih H locs ls hI => ?_) (min 0 pgs.toNatClampNeg) _ _ _ ⟨0, (by omega), hP, hD, hS, lv_sub hl [1, 2, 3, 0] rfl⟩
    obtain ⟨i, hik, hP, hD, hS, hl⟩ := hI
    refine lv_iload_n hx hb dX0_torn_11 rfl (lv_at hl 3 rfl) ?_
    refine lv_aload_n hx hb dX0_torn_12 rfl (lv_at hl 0 rfl) ?_
    refine va_get (D := D) (ci := 0) (v := .int (nI 0)) (C := RX0) (T := TX0) (N := 9) hx hb hts in_X0 hown hK hP 0 rfl rfl 1 (by decide) (hts _ q22) (fun _ h9 => h9) rfl dX0_torn_13 ?_
    refine lv_icmp_ge (tgt := 35) hx hb dX0_torn_16 (by decide) (fun c16 => ?_) (fun c16 => ?_)
    · have hin := nn_leE (by omega) (by omega) c16
      rw [show i = (min 0 pgs.toNatClampNeg) by omega] at hP hD
      refine lv_aload_n hx hb dX0_torn_35 rfl (lv_at hl 0 rfl) ?_
      refine w_callv (wr := []) (mX0_start l D ad cI cZ (cf_hall home lp lb (min 0 pgs.toNatClampNeg), 0, lp, lb, tr, ver, tx, sg, sb) ⟨by omega, hlp⟩) [0, 1, 2, 3, 4, 5] [] 0 ⟨hx, hb, hml, hown, hts⟩ (cwV 0 hts (lw_V q119 q121 qs7 q11 q122) rfl rfl rfl (by decide +kernel) ⟨Nat.le_of_ble_eq_true rfl, Nat.le_of_ble_eq_true rfl⟩) hP hD hK hS hA rfl rfl rfl rfl (by decide) rfl rfl rfl hl.1 rfl (Nat.le_of_ble_eq_true rfl) dX0_torn_36 ⟨Nat.zero_le _, Nat.zero_le _⟩ (fun u H locs hw hP hD hS => ?_)
      subst hw
      have hP : va_P D vwCl (wX ad cI cZ (cf_hall (cf_hall home lp lb (min 0 pgs.toNatClampNeg)) lp lb 0, 0, lp, lb, tr, false, false, cf_unst sg, sb)) H := hP
      have hD : va_D A (wX ad cI cZ (cf_hall (cf_hall home lp lb (min 0 pgs.toNatClampNeg)) lp lb 0, 0, lp, lb, tr, false, false, cf_unst sg, sb)) := hD
      exact w_vret (S := CFt) (w := wX ad cI cZ) (cf_hall (cf_hall home lp lb (min 0 pgs.toNatClampNeg)) lp lb 0, 0, lp, lb, tr, false, false, cf_unst sg, sb) hx hb hr hloc hK hP hD hS dX0_torn_39 (by
              rw [hmk]
              rfl)
    · have hin := nn_nleE (by omega) c16
      refine lv_iload_n hx hb dX0_torn_19 rfl (lv_at hl 3 rfl) ?_
      refine lv_iload_n hx hb dX0_torn_20 rfl (lv_at hl 2 rfl) ?_
      refine lv_icmp_ge (tgt := 35) hx hb dX0_torn_21 (by decide) (fun c21 => ?_) (fun c21 => ?_)
      · have hin2 := nn_pgle (by omega) c21
        rw [show i = (min 0 pgs.toNatClampNeg) by omega] at hP hD
        refine lv_aload_n hx hb dX0_torn_35 rfl (lv_at hl 0 rfl) ?_
        refine w_callv (wr := []) (mX0_start l D ad cI cZ (cf_hall home lp lb (min 0 pgs.toNatClampNeg), 0, lp, lb, tr, ver, tx, sg, sb) ⟨by omega, hlp⟩) [0, 1, 2, 3, 4, 5] [] 0 ⟨hx, hb, hml, hown, hts⟩ (cwV 0 hts (lw_V q119 q121 qs7 q11 q122) rfl rfl rfl (by decide +kernel) ⟨Nat.le_of_ble_eq_true rfl, Nat.le_of_ble_eq_true rfl⟩) hP hD hK hS hA rfl rfl rfl rfl (by decide) rfl rfl rfl hl.1 rfl (Nat.le_of_ble_eq_true rfl) dX0_torn_36 ⟨Nat.zero_le _, Nat.zero_le _⟩ (fun u H locs hw hP hD hS => ?_)
        subst hw
        have hP : va_P D vwCl (wX ad cI cZ (cf_hall (cf_hall home lp lb (min 0 pgs.toNatClampNeg)) lp lb 0, 0, lp, lb, tr, false, false, cf_unst sg, sb)) H := hP
        have hD : va_D A (wX ad cI cZ (cf_hall (cf_hall home lp lb (min 0 pgs.toNatClampNeg)) lp lb 0, 0, lp, lb, tr, false, false, cf_unst sg, sb)) := hD
        exact w_vret (S := CFt) (w := wX ad cI cZ) (cf_hall (cf_hall home lp lb (min 0 pgs.toNatClampNeg)) lp lb 0, 0, lp, lb, tr, false, false, cf_unst sg, sb) hx hb hr hloc hK hP hD hS dX0_torn_39 (by
                  rw [hmk]
                  rfl)
      · have hin2 := nn_pglt (by omega) c21
        refine lv_aload_n hx hb dX0_torn_24 rfl (lv_at hl 0 rfl) ?_
        refine lv_iload_n hx hb dX0_torn_25 rfl (lv_at hl 3 rfl) ?_
        refine w_callv (wr := []) (mX0_bringHome l D ad cI cZ (cf_hall home lp lb i, 0, lp, lb, tr, ver, tx, sg, sb) i ⟨by omega, hlp⟩ (by omega)) [0, 1, 2, 3, 4, 5] [] 0 ⟨hx, hb, hml, hown, hts⟩ (cwV 1 hts (lw_V q75 q77 qs4 q11 q78) rfl rfl rfl (by decide +kernel) ⟨Nat.le_of_ble_eq_true rfl, Nat.le_of_ble_eq_true rfl⟩) hP hD hK hS hA rfl rfl rfl rfl (by decide) rfl rfl rfl hl.1 rfl (Nat.le_of_ble_eq_true rfl) dX0_torn_26 ⟨Nat.zero_le _, Nat.zero_le _⟩ (fun u H locs hw hP hD hS => ?_)
        subst hw
        have hP : va_P D vwCl (wX ad cI cZ (cf_hall home lp lb (i + 1), 0, lp, lb, tr, ver, tx, sg, sb)) H := hP
        have hD : va_D A (wX ad cI cZ (cf_hall home lp lb (i + 1), 0, lp, lb, tr, ver, tx, sg, sb)) := hD
        refine lv_iinc (v := nI (i + 1)) (lv' := [(3, .int (nI (i + 1))), (0, .ref (ad 0)), (1, .int (cf_b mk)), (2, .int pgs)]) hx hb dX0_torn_29 hl (k := 3) rfl (nI_add _ 1) (by decide) rfl (fun ls hl => ?_)
        refine lv_goto (tgt := 11) hx hb dX0_torn_32 (by decide) ?_
        exact ih (k - 1) (by omega) _ _ _ ⟨i + 1, by omega, hP, hD, hS, lv_sub hl [1, 2, 3, 0] rfl⟩
set_option maxHeartbeats 4000000 in
set_option maxRecDepth 100000 in
/-- state() -/
theorem mX0_state (l : Launch) (D : va_G) (ad : Nat → Nat) (cI cZ : ClassId) (u : CFt) : MCi l yX0_state cX0_state 1 ({ frames := 0, cells := 0, slots := 0, locals := 0 }) D (tyW cI cZ) [.ref (ad 0)] (wX ad cI cZ u) (fun r u1 => r = cf_state u ∧ u1 = u) (wX ad cI cZ) := by
  obtain ⟨home, n, lp, lb, tr, ver, tx, sg, sb⟩ := u
  unfold MCi
  refine mc_start (Qk := fun A => va_Qi _ (fun u t => bW D (tyW cI cZ) A (wX ad cI cZ u) t) A) (by decide) (Nat.le_of_ble_eq_true rfl) ?_
  intro p e s m below meth c A hx hb hr hml hown hts hloc hnm hK hP hD hA hS ls hl
  have hown : s.vm.findClass RX0 = some m.cls := hown
  have hl : lv_has ls 1 [(0, .ref (ad 0))] := hl
  refine lv_aload_n hx hb dX0_state_0 rfl (lv_at hl 0 rfl) ?_
  refine va_get (D := D) (ci := 0) (v := .int tr) (C := RX0) (T := TX0) (N := 9) hx hb hts in_X0 hown hK hP 0 rfl rfl 4 (by decide) (hts _ q25) (fun _ h9 => h9) rfl dX0_state_1 ?_
  refine lv_aload_n hx hb dX0_state_4 rfl (lv_at hl 0 rfl) ?_
  refine va_get (D := D) (ci := 0) (v := .int (cf_b ver)) (C := RX0) (T := TX0) (N := 9) hx hb hts in_X0 hown hK hP 0 rfl rfl 5 (by decide) (hts _ q26) (fun _ h9 => h9) rfl dX0_state_5 ?_
  refine lv_if_eq (tgt := 15) hx hb dX0_state_8 (by decide) (fun c8 => ?_) (fun c8 => ?_)
  · have hver := cf_b_0 c8
    subst hver
    refine lv_iconst (v := 0) hx hb dX0_state_15 (by decide) ?_
    refine lv_iadd hx hb dX0_state_16 ?_
    exact w_iret (S := CFt) (w := wX ad cI cZ) (home, n, lp, lb, tr, false, tx, sg, sb) hx hb hr hloc hK hP hD hS dX0_state_17 ⟨rfl, rfl⟩
  · have hver := cf_b_1 c8
    subst hver
    refine lv_iconst (v := 4) hx hb dX0_state_11 (by decide) ?_
    refine lv_goto (tgt := 16) hx hb dX0_state_12 (by decide) ?_
    refine lv_iadd hx hb dX0_state_16 ?_
    exact w_iret (S := CFt) (w := wX ad cI cZ) (home, n, lp, lb, tr, true, tx, sg, sb) hx hb hr hloc hK hP hD hS dX0_state_17 ⟨rfl, rfl⟩
end
section
/-! CONTRACTS of CardFilesModel -/
theorem nn_Z {z : Int32} (h1 : ¬ z < 1) (h2 : z ≤ 16) : ∃ Z : Nat, 1 ≤ Z ∧ Z ≤ 16 ∧ z = nI Z := by
  have h0 : ¬ z < 0 := by
    intro q
    exact h1 (Int32.lt_iff_toInt_lt.mpr (by have := Int32.lt_iff_toInt_lt.mp q; have e0 : (0 : Int32).toInt = 0 := rfl; have e1 : (1 : Int32).toInt = 1 := rfl; omega))
  obtain ⟨Z, hZ, e⟩ := nI_of2 (M := 16) (n := 16) rfl h0 h2
  refine ⟨Z, ?_, hZ, e⟩
  rcases Nat.eq_zero_or_pos Z with q | q
  · rw [e, q] at h1
    exact absurd (by decide) h1
  · exact q
theorem md_refuse_ge {v : MDt} {f o : Int32} (hv : md_ok v) (h : ¬ md_refuse v f o < 0) : ∃ F O : Nat, F ≤ 5 ∧ O < 16 ∧ f = nI F ∧ o = nI O := by
  unfold md_refuse at h
  by_cases q : f < 0 ∨ 5 < f ∨ o < 0 ∨ nI (md_sz v f.toNatClampNeg) ≤ o
  · rw [if_pos q] at h
    exact absurd (by decide) h
  · have h0 : ¬ f < 0 := fun z => q (Or.inl z)
    have h5 : f ≤ 5 := Int32.not_lt.mp (fun z => q (Or.inr (Or.inl z)))
    have ho : ¬ o < 0 := fun z => q (Or.inr (Or.inr (Or.inl z)))
    have hs : o < nI (md_sz v f.toNatClampNeg) := Int32.not_le.mp (fun z => q (Or.inr (Or.inr (Or.inr z))))
    obtain ⟨F, hF, eF⟩ := nn_F h0 h5
    obtain ⟨O, hO, eO⟩ := nI_of ho
    rw [eF, nn_cl (by omega), eO] at hs
    have hz : md_sz v F ≤ 16 := hv F (by omega)
    have := (nI_ltI hO (by omega)).mp hs
    exact ⟨F, O, hF, by omega, eF, eO⟩
set_option maxHeartbeats 4000000 in
set_option maxRecDepth 100000 in
/-- keep(): a copy of all as it is now -/
theorem mX1_keep (l : Launch) (D : va_G) (ad : Nat → Nat) (cI cZ : ClassId) (v : MDt) : MCv l yX1_keep cX1_keep 2 ({ frames := 0, cells := 0, slots := 0, locals := 0 }) D (tyW cI cZ) [.ref (ad 0)] (wM ad cI cZ v) (fun v1 => v1 = md_keep v) (wM ad cI cZ) := by
  obtain ⟨sz, gd, by_, cd, tr, ver, op, sn, ch, oz, og, ob, oc⟩ := v
  unfold MCv
  refine mc_start (Qk := fun A => va_Qv _ (fun u t => bW D (tyW cI cZ) A (wM ad cI cZ u) t) A) (by decide) (Nat.le_of_ble_eq_true rfl) ?_
  intro p e s m below meth c A hx hb hr hml hown hts hloc hnm hK hP hD hA hS ls hl
  have hown : s.vm.findClass RX1 = some m.cls := hown
  have hl : lv_has ls 2 [(0, .ref (ad 0))] := hl
  refine lv_iconst (v := nI 0) hx hb dX1_keep_0 (by rfl) ?_
  refine lv_istore_n (lv' := [(1, .int (nI 0)), (0, .ref (ad 0))]) hx hb dX1_keep_1 rfl hl (by decide) rfl (fun ls hl => ?_)
  refine w_loop (pc := 2) (fun k H locs ls => ∃ i : Nat, i + k = 6 ∧ va_P D vwCl (wM ad cI cZ (sz, gd, by_, cd, tr, ver, op, sn, ch, cf_cpy oz sz 0 0 i, cf_cpy og gd 0 0 i, ob, oc)) H ∧ va_D A (wM ad cI cZ (sz, gd, by_, cd, tr, ver, op, sn, ch, cf_cpy oz sz 0 0 i, cf_cpy og gd 0 0 i, ob, oc)) ∧ va_S A s.heap H locs ∧ lv_has ls 2 [(0, .ref (ad 0)), (1, .int (nI i))]) (fun k ih H locs ls hI => ?_) 6 _ _ _ ⟨0, (by omega), (by rw [cf_cpy_0, cf_cpy_0]; exact hP), (by rw [cf_cpy_0, cf_cpy_0]; exact hD), hS, lv_sub hl [1, 0] rfl⟩
  obtain ⟨i, hik, hP, hD, hS, hl⟩ := hI
  refine lv_iload_n hx hb dX1_keep_2 rfl (lv_at hl 1 rfl) ?_
  refine lv_bipush (v := nI 6) hx hb dX1_keep_3 (by rfl) ?_
  refine lv_icmp_ge (tgt := 38) hx hb dX1_keep_5 (by decide) (fun c5 => ?_) (fun c5 => ?_)
  · have hin := nn_leE (by omega) (by omega) c5
    have h8 : i = 6 := by omega
    subst h8
    refine lv_iconst (v := nI 0) hx hb dX1_keep_38 (by rfl) ?_
    refine lv_istore_n (lv' := [(1, .int (nI 0)), (0, .ref (ad 0))]) hx hb dX1_keep_39 rfl hl (by decide) rfl (fun ls hl => ?_)
    refine w_loop (pc := 40) (fun k2 H locs ls => ∃ j : Nat, j + k2 = 96 ∧ va_P D vwCl (wM ad cI cZ (sz, gd, by_, cd, tr, ver, op, sn, ch, cf_cpy oz sz 0 0 6, cf_cpy og gd 0 0 6, cf_cpy ob by_ 0 0 j, oc)) H ∧ va_D A (wM ad cI cZ (sz, gd, by_, cd, tr, ver, op, sn, ch, cf_cpy oz sz 0 0 6, cf_cpy og gd 0 0 6, cf_cpy ob by_ 0 0 j, oc)) ∧ va_S A s.heap H locs ∧ lv_has ls 2 [(0, .ref (ad 0)), (1, .int (nI j))]) (fun k2 ih2 H locs ls hI => ?_) 96 _ _ _ ⟨0, (by omega), (by rw [cf_cpy_0 ob]; exact hP), (by rw [cf_cpy_0 ob]; exact hD), hS, lv_sub hl [1, 0] rfl⟩
    obtain ⟨j, hjk, hP, hD, hS, hl⟩ := hI
    refine lv_iload_n hx hb dX1_keep_40 rfl (lv_at hl 1 rfl) ?_
    refine lv_bipush (v := nI 96) hx hb dX1_keep_41 (by rfl) ?_
    refine lv_icmp_ge (tgt := 64) hx hb dX1_keep_43 (by decide) (fun c43 => ?_) (fun c43 => ?_)
    · have hin := nn_leE (by omega) (by omega) c43
      have h8 : j = 96 := by omega
      subst h8
      refine lv_aload_n hx hb dX1_keep_64 rfl (lv_at hl 0 rfl) ?_
      refine lv_aload_n hx hb dX1_keep_65 rfl (lv_at hl 0 rfl) ?_
      refine va_get (D := D) (ci := 1) (v := .int cd) (C := RX1) (T := TX1) (N := 13) hx hb hts in_X1 hown hK hP 0 rfl rfl 3 (by decide) (hts _ q141) (fun _ h9 => h9) rfl dX1_keep_66 ?_
      refine va_put (D := D) (ci := 1) (v := .int cd) (ty := .int) (C := RX1) (T := TX1) (N := 13) hx hb hts in_X1 tyX1 tyX1_ok nmX1 hown hK hP hD hS 0 rfl rfl 12 (by decide) (hts _ q150) (fun _ h9 => h9) rfl (by decide +kernel) rfl rfl (Nat.le_of_ble_eq_true rfl) dX1_keep_69 (fun H locs hP hD hS => ?_)
      have hP : va_P D vwCl (wM ad cI cZ (sz, gd, by_, cd, tr, ver, op, sn, ch, cf_cpy oz sz 0 0 6, cf_cpy og gd 0 0 6, cf_cpy ob by_ 0 0 96, cd)) H := hP
      have hD : va_D A (wM ad cI cZ (sz, gd, by_, cd, tr, ver, op, sn, ch, cf_cpy oz sz 0 0 6, cf_cpy og gd 0 0 6, cf_cpy ob by_ 0 0 96, cd)) := hD
      refine lv_aload_n hx hb dX1_keep_72 rfl (lv_at hl 0 rfl) ?_
      refine lv_iconst (v := cf_b true) hx hb dX1_keep_73 (by rfl) ?_
      refine va_put (D := D) (ci := 1) (v := .int (cf_b true)) (ty := .boolean) (C := RX1) (T := TX1) (N := 13) hx hb hts in_X1 tyX1 tyX1_ok nmX1 hown hK hP hD hS 0 rfl rfl 8 (by decide) (hts _ q146) (fun _ h9 => h9) rfl (by decide +kernel) (cf_b_fit _).1 (cf_b_fit _).2 (Nat.le_of_ble_eq_true rfl) dX1_keep_74 (fun H locs hP hD hS => ?_)
      have hP : va_P D vwCl (wM ad cI cZ (sz, gd, by_, cd, tr, ver, op, sn, true, cf_cpy oz sz 0 0 6, cf_cpy og gd 0 0 6, cf_cpy ob by_ 0 0 96, cd)) H := hP
      have hD : va_D A (wM ad cI cZ (sz, gd, by_, cd, tr, ver, op, sn, true, cf_cpy oz sz 0 0 6, cf_cpy og gd 0 0 6, cf_cpy ob by_ 0 0 96, cd)) := hD
      exact w_vret (S := MDt) (w := wM ad cI cZ) (sz, gd, by_, cd, tr, ver, op, sn, true, cf_cpy oz sz 0 0 6, cf_cpy og gd 0 0 6, cf_cpy ob by_ 0 0 96, cd) hx hb hr hloc hK hP hD hS dX1_keep_77 rfl
    · have hin := nn_nleE (by omega) c43
      refine lv_aload_n hx hb dX1_keep_46 rfl (lv_at hl 0 rfl) ?_
      refine va_get (D := D) (ci := 1) (v := .ref (ad 7)) (C := RX1) (T := TX1) (N := 13) hx hb hts in_X1 hown hK hP 0 rfl rfl 11 (by decide) (hts _ q149) (fun _ h9 => h9) rfl dX1_keep_47 ?_
      refine lv_iload_n hx hb dX1_keep_50 rfl (lv_at hl 1 rfl) ?_
      refine lv_aload_n hx hb dX1_keep_51 rfl (lv_at hl 0 rfl) ?_
      refine va_get (D := D) (ci := 1) (v := .ref (ad 3)) (C := RX1) (T := TX1) (N := 13) hx hb hts in_X1 hown hK hP 0 rfl rfl 2 (by decide) (hts _ q140) (fun _ h9 => h9) rfl dX1_keep_52 ?_
      refine lv_iload_n hx hb dX1_keep_55 rfl (lv_at hl 1 rfl) ?_
      refine na_iald (f := by_) hx hb hK hP 3 0 rfl rfl (j := j) (by omega) (by decide) dX1_keep_56 ?_
      refine na_iast (f := cf_cpy ob by_ 0 0 j) (g := cf_cpy ob by_ 0 0 (j + 1)) (x := (by_ j)) hx hb hK hP hD hS 7 0 rfl rfl (j := j) (by omega) (by decide) (cf_cpy_s (by omega) (by rw [Nat.zero_add])) dX1_keep_57 (fun H locs hP hD hS => ?_)
      have hP : va_P D vwCl (wM ad cI cZ (sz, gd, by_, cd, tr, ver, op, sn, ch, cf_cpy oz sz 0 0 6, cf_cpy og gd 0 0 6, cf_cpy ob by_ 0 0 (j + 1), oc)) H := hP
      have hD : va_D A (wM ad cI cZ (sz, gd, by_, cd, tr, ver, op, sn, ch, cf_cpy oz sz 0 0 6, cf_cpy og gd 0 0 6, cf_cpy ob by_ 0 0 (j + 1), oc)) := hD
      refine lv_iinc (v := nI (j + 1)) (lv' := [(1, .int (nI (j + 1))), (0, .ref (ad 0))]) hx hb dX1_keep_58 hl (k := 1) rfl (nI_add _ 1) (by decide) rfl (fun ls hl => ?_)
      refine lv_goto (tgt := 40) hx hb dX1_keep_61 (by decide) ?_
      exact ih2 (k2 - 1) (by omega) _ _ _ ⟨j + 1, by omega, hP, hD, hS, lv_sub hl [1, 0] rfl⟩
  · have hin := nn_nleE (by omega) c5
    refine lv_aload_n hx hb dX1_keep_8 rfl (lv_at hl 0 rfl) ?_
    refine va_get (D := D) (ci := 1) (v := .ref (ad 5)) (C := RX1) (T := TX1) (N := 13) hx hb hts in_X1 hown hK hP 0 rfl rfl 9 (by decide) (hts _ q147) (fun _ h9 => h9) rfl dX1_keep_9 ?_
    refine lv_iload_n hx hb dX1_keep_12 rfl (lv_at hl 1 rfl) ?_
    refine lv_aload_n hx hb dX1_keep_13 rfl (lv_at hl 0 rfl) ?_
    refine va_get (D := D) (ci := 1) (v := .ref (ad 1)) (C := RX1) (T := TX1) (N := 13) hx hb hts in_X1 hown hK hP 0 rfl rfl 0 (by decide) (hts _ q138) (fun _ h9 => h9) rfl dX1_keep_14 ?_
    refine lv_iload_n hx hb dX1_keep_17 rfl (lv_at hl 1 rfl) ?_
    refine na_iald (f := fun k => nI (sz k)) hx hb hK hP 1 0 rfl rfl (j := i) (by omega) (by decide) dX1_keep_18 ?_
    refine w_top (y := nI (sz i)) rfl ?_
    refine na_nast (f := cf_cpy oz sz 0 0 i) (g := cf_cpy oz sz 0 0 (i + 1)) (x := sz i) hx hb hK hP hD hS 5 0 rfl rfl (j := i) (by omega) (by decide) (cf_cpy_s (by omega) (by rw [Nat.zero_add])) dX1_keep_19 (fun H locs hP hD hS => ?_)
    have hP : va_P D vwCl (wM ad cI cZ (sz, gd, by_, cd, tr, ver, op, sn, ch, cf_cpy oz sz 0 0 (i + 1), cf_cpy og gd 0 0 i, ob, oc)) H := hP
    have hD : va_D A (wM ad cI cZ (sz, gd, by_, cd, tr, ver, op, sn, ch, cf_cpy oz sz 0 0 (i + 1), cf_cpy og gd 0 0 i, ob, oc)) := hD
    refine lv_aload_n hx hb dX1_keep_20 rfl (lv_at hl 0 rfl) ?_
    refine va_get (D := D) (ci := 1) (v := .ref (ad 6)) (C := RX1) (T := TX1) (N := 13) hx hb hts in_X1 hown hK hP 0 rfl rfl 10 (by decide) (hts _ q148) (fun _ h9 => h9) rfl dX1_keep_21 ?_
    refine lv_iload_n hx hb dX1_keep_24 rfl (lv_at hl 1 rfl) ?_
    refine lv_aload_n hx hb dX1_keep_25 rfl (lv_at hl 0 rfl) ?_
    refine va_get (D := D) (ci := 1) (v := .ref (ad 2)) (C := RX1) (T := TX1) (N := 13) hx hb hts in_X1 hown hK hP 0 rfl rfl 1 (by decide) (hts _ q139) (fun _ h9 => h9) rfl dX1_keep_26 ?_
    refine lv_iload_n hx hb dX1_keep_29 rfl (lv_at hl 1 rfl) ?_
    refine na_zald (g := gd) hx hb hK hP 2 1 rfl rfl (j := i) (by omega) (by decide) dX1_keep_30 ?_
    refine na_zast (f := cf_cpy og gd 0 0 i) (g := cf_cpy og gd 0 0 (i + 1)) (x := gd i) hx hb hK hP hD hS 6 1 rfl rfl (j := i) (by omega) (by decide) (cf_cpy_s (by omega) (by rw [Nat.zero_add])) dX1_keep_31 (fun H locs hP hD hS => ?_)
    have hP : va_P D vwCl (wM ad cI cZ (sz, gd, by_, cd, tr, ver, op, sn, ch, cf_cpy oz sz 0 0 (i + 1), cf_cpy og gd 0 0 (i + 1), ob, oc)) H := hP
    have hD : va_D A (wM ad cI cZ (sz, gd, by_, cd, tr, ver, op, sn, ch, cf_cpy oz sz 0 0 (i + 1), cf_cpy og gd 0 0 (i + 1), ob, oc)) := hD
    refine lv_iinc (v := nI (i + 1)) (lv' := [(1, .int (nI (i + 1))), (0, .ref (ad 0))]) hx hb dX1_keep_32 hl (k := 1) rfl (nI_add _ 1) (by decide) rfl (fun ls hl => ?_)
    refine lv_goto (tgt := 2) hx hb dX1_keep_35 (by decide) ?_
    exact ih (k - 1) (by omega) _ _ _ ⟨i + 1, by omega, hP, hD, hS, lv_sub hl [1, 0] rfl⟩
set_option maxHeartbeats 4000000 in
set_option maxRecDepth 100000 in
/-- create(file, size, guarded) -/
theorem mX1_create (l : Launch) (D : va_G) (ad : Nat → Nat) (cI cZ : ClassId) (v : MDt) (f z : Int32) (gg : Bool) : MCi l yX1_create cX1_create 5 ({ frames := 1, cells := 0, slots := 0, locals := 21 }) D (tyW cI cZ) [.ref (ad 0), .int f, .int z, .int (cf_b gg)] (wM ad cI cZ v) (fun r v1 => (r, v1) = md_create v f z gg) (wM ad cI cZ) := by
  obtain ⟨sz, gd, by_, cd, tr, ver, op, sn, ch, oz, og, ob, oc⟩ := v
  unfold MCi
  refine mc_start (Qk := fun A => va_Qi _ (fun u t => bW D (tyW cI cZ) A (wM ad cI cZ u) t) A) (by decide) (Nat.le_of_ble_eq_true rfl) ?_
  intro p e s m below meth c A hx hb hr hml hown hts hloc hnm hK hP hD hA hS ls hl
  have hown : s.vm.findClass RX1 = some m.cls := hown
  have hl : lv_has ls 5 [(0, .ref (ad 0)), (1, .int f), (2, .int z), (3, .int (cf_b gg))] := hl
  refine lv_iload_n hx hb dX1_create_0 rfl (lv_at hl 1 rfl) ?_
  refine lv_if_lt (tgt := 29) hx hb dX1_create_1 (by decide) (fun c1 => ?_) (fun c1 => ?_)
  · refine lv_iconst (v := (-1)) hx hb dX1_create_29 (by decide) ?_
    exact w_iret (S := MDt) (w := wM ad cI cZ) (sz, gd, by_, cd, tr, ver, op, sn, ch, oz, og, ob, oc) hx hb hr hloc hK hP hD hS dX1_create_30 (if_pos (Or.inl c1)).symm
  · refine lv_iload_n hx hb dX1_create_4 rfl (lv_at hl 1 rfl) ?_
    refine lv_iconst (v := 5) hx hb dX1_create_5 (by decide) ?_
    refine lv_icmp_gt (tgt := 29) hx hb dX1_create_6 (by decide) (fun c6 => ?_) (fun c6 => ?_)
    · refine lv_iconst (v := (-1)) hx hb dX1_create_29 (by decide) ?_
      exact w_iret (S := MDt) (w := wM ad cI cZ) (sz, gd, by_, cd, tr, ver, op, sn, ch, oz, og, ob, oc) hx hb hr hloc hK hP hD hS dX1_create_30 (if_pos (Or.inr (Or.inl c6))).symm
    · obtain ⟨F, hF, rfl⟩ := nn_F c1 (Int32.not_lt.mp c6)
      have hsz : md_sz (sz, gd, by_, cd, tr, ver, op, sn, ch, oz, og, ob, oc) (nI F).toNatClampNeg = sz F := by rw [nn_cl (by omega)]; rfl
      refine lv_aload_n hx hb dX1_create_9 rfl (lv_at hl 0 rfl) ?_
      refine va_get (D := D) (ci := 1) (v := .ref (ad 1)) (C := RX1) (T := TX1) (N := 13) hx hb hts in_X1 hown hK hP 0 rfl rfl 0 (by decide) (hts _ q138) (fun _ h9 => h9) rfl dX1_create_10 ?_
      refine lv_iload_n hx hb dX1_create_13 rfl (lv_at hl 1 rfl) ?_
      refine na_iald (f := fun k => nI (sz k)) hx hb hK hP 1 0 rfl rfl (j := F) (by omega) (by decide) dX1_create_14 ?_
      refine w_top (y := nI (sz F)) rfl ?_
      refine lv_if_gt (tgt := 29) hx hb dX1_create_15 (by decide) (fun c15 => ?_) (fun c15 => ?_)
      · refine lv_iconst (v := (-1)) hx hb dX1_create_29 (by decide) ?_
        exact w_iret (S := MDt) (w := wM ad cI cZ) (sz, gd, by_, cd, tr, ver, op, sn, ch, oz, og, ob, oc) hx hb hr hloc hK hP hD hS dX1_create_30 (if_pos (Or.inr (Or.inr (Or.inl (by rw [hsz]; exact c15))))).symm
      · refine lv_iload_n hx hb dX1_create_18 rfl (lv_at hl 2 rfl) ?_
        refine lv_iconst (v := 1) hx hb dX1_create_19 (by decide) ?_
        refine lv_icmp_lt (tgt := 29) hx hb dX1_create_20 (by decide) (fun c20 => ?_) (fun c20 => ?_)
        · refine lv_iconst (v := (-1)) hx hb dX1_create_29 (by decide) ?_
          exact w_iret (S := MDt) (w := wM ad cI cZ) (sz, gd, by_, cd, tr, ver, op, sn, ch, oz, og, ob, oc) hx hb hr hloc hK hP hD hS dX1_create_30 (if_pos (Or.inr (Or.inr (Or.inr (Or.inl c20))))).symm
        · refine lv_iload_n hx hb dX1_create_23 rfl (lv_at hl 2 rfl) ?_
          refine lv_bipush (v := 16) hx hb dX1_create_24 (by decide) ?_
          refine lv_icmp_le (tgt := 31) hx hb dX1_create_26 (by decide) (fun c26 => ?_) (fun c26 => ?_)
          · have hbad : ¬ (nI F < 0 ∨ 5 < nI F ∨ 0 < nI (md_sz (sz, gd, by_, cd, tr, ver, op, sn, ch, oz, og, ob, oc) (nI F).toNatClampNeg) ∨ z < 1 ∨ 16 < z) := by
              rw [hsz]
              rintro (q | q | q | q | q)
              · exact c1 q
              · exact c6 q
              · exact c15 q
              · exact c20 q
              · exact Int32.not_lt.mpr c26 q
            obtain ⟨Z, hZ1, hZ2, rfl⟩ := nn_Z c20 c26
            refine lv_aload_n hx hb dX1_create_31 rfl (lv_at hl 0 rfl) ?_
            refine va_get (D := D) (ci := 1) (v := .int (cf_b op)) (C := RX1) (T := TX1) (N := 13) hx hb hts in_X1 hown hK hP 0 rfl rfl 6 (by decide) (hts _ q144) (fun _ h9 => h9) rfl dX1_create_32 ?_
            refine lv_if_eq (tgt := 41) hx hb dX1_create_35 (by decide) (fun c35 => ?_) (fun c35 => ?_)
            · have hop := cf_b_0 c35
              refine lv_aload_n hx hb dX1_create_41 rfl (lv_at hl 0 rfl) ?_
              refine w_callv (wr := []) (mX1_keep l D ad cI cZ (sz, gd, by_, cd, tr, ver, op, sn, ch, oz, og, ob, oc)) [0, 1, 2, 3, 4, 5, 6, 7] [] 0 ⟨hx, hb, hml, hown, hts⟩ (cwV 0 hts (lw_V q182 q184 qs8 q12 q185) rfl rfl rfl (by decide +kernel) ⟨Nat.le_of_ble_eq_true rfl, Nat.le_of_ble_eq_true rfl⟩) hP hD hK hS hA rfl rfl rfl rfl (by decide) rfl rfl rfl hl.1 rfl (Nat.le_of_ble_eq_true rfl) dX1_create_42 ⟨Nat.zero_le _, Nat.zero_le _⟩ (fun u H locs hw hP hD hS => ?_)
              subst hw
              have hP : va_P D vwCl (wM ad cI cZ (sz, gd, by_, cd, tr, ver, op, sn, true, cf_cpy oz sz 0 0 6, cf_cpy og gd 0 0 6, cf_cpy ob by_ 0 0 96, cd)) H := hP
              have hD : va_D A (wM ad cI cZ (sz, gd, by_, cd, tr, ver, op, sn, true, cf_cpy oz sz 0 0 6, cf_cpy og gd 0 0 6, cf_cpy ob by_ 0 0 96, cd)) := hD
              refine lv_aload_n hx hb dX1_create_45 rfl (lv_at hl 0 rfl) ?_
              refine va_get (D := D) (ci := 1) (v := .ref (ad 1)) (C := RX1) (T := TX1) (N := 13) hx hb hts in_X1 hown hK hP 0 rfl rfl 0 (by decide) (hts _ q138) (fun _ h9 => h9) rfl dX1_create_46 ?_
              refine lv_iload_n hx hb dX1_create_49 rfl (lv_at hl 1 rfl) ?_
              refine lv_iload_n hx hb dX1_create_50 rfl (lv_at hl 2 rfl) ?_
              refine na_nast (f := sz) (g := cf_up sz F Z) (x := Z) hx hb hK hP hD hS 1 0 rfl rfl (j := F) (by omega) (by decide) rfl dX1_create_51 (fun H locs hP hD hS => ?_)
              have hP : va_P D vwCl (wM ad cI cZ (cf_up sz F Z, gd, by_, cd, tr, ver, op, sn, true, cf_cpy oz sz 0 0 6, cf_cpy og gd 0 0 6, cf_cpy ob by_ 0 0 96, cd)) H := hP
              have hD : va_D A (wM ad cI cZ (cf_up sz F Z, gd, by_, cd, tr, ver, op, sn, true, cf_cpy oz sz 0 0 6, cf_cpy og gd 0 0 6, cf_cpy ob by_ 0 0 96, cd)) := hD
              refine lv_aload_n hx hb dX1_create_52 rfl (lv_at hl 0 rfl) ?_
              refine va_get (D := D) (ci := 1) (v := .ref (ad 2)) (C := RX1) (T := TX1) (N := 13) hx hb hts in_X1 hown hK hP 0 rfl rfl 1 (by decide) (hts _ q139) (fun _ h9 => h9) rfl dX1_create_53 ?_
              refine lv_iload_n hx hb dX1_create_56 rfl (lv_at hl 1 rfl) ?_
              refine lv_iload_n hx hb dX1_create_57 rfl (lv_at hl 3 rfl) ?_
              refine na_zast (f := gd) (g := cf_up gd F gg) (x := gg) hx hb hK hP hD hS 2 1 rfl rfl (j := F) (by omega) (by decide) rfl dX1_create_58 (fun H locs hP hD hS => ?_)
              have hP : va_P D vwCl (wM ad cI cZ (cf_up sz F Z, cf_up gd F gg, by_, cd, tr, ver, op, sn, true, cf_cpy oz sz 0 0 6, cf_cpy og gd 0 0 6, cf_cpy ob by_ 0 0 96, cd)) H := hP
              have hD : va_D A (wM ad cI cZ (cf_up sz F Z, cf_up gd F gg, by_, cd, tr, ver, op, sn, true, cf_cpy oz sz 0 0 6, cf_cpy og gd 0 0 6, cf_cpy ob by_ 0 0 96, cd)) := hD
              refine lv_iconst (v := nI 0) hx hb dX1_create_59 (by rfl) ?_
              refine lv_istore (lv' := [(4, .int (nI 0)), (0, .ref (ad 0)), (1, .int (nI F)), (2, .int (nI Z)), (3, .int (cf_b gg))]) hx hb dX1_create_60 hl (by decide) rfl (fun ls hl => ?_)
              refine w_loop (pc := 62) (fun k H locs ls => ∃ i : Nat, i + k = 16 ∧ va_P D vwCl (wM ad cI cZ (cf_up sz F Z, cf_up gd F gg, cf_cpy by_ (fun _ => 0) (16 * F) 0 i, cd, tr, ver, op, sn, true, cf_cpy oz sz 0 0 6, cf_cpy og gd 0 0 6, cf_cpy ob by_ 0 0 96, cd)) H ∧ va_D A (wM ad cI cZ (cf_up sz F Z, cf_up gd F gg, cf_cpy by_ (fun _ => 0) (16 * F) 0 i, cd, tr, ver, op, sn, true, cf_cpy oz sz 0 0 6, cf_cpy og gd 0 0 6, cf_cpy ob by_ 0 0 96, cd)) ∧ va_S A s.heap H locs ∧ lv_has ls 5 [(0, .ref (ad 0)), (1, .int (nI F)), (2, .int (nI Z)), (3, .int (cf_b gg)), (4, .int (nI i))]) (fun k ih H locs ls hI => ?_) 16 _ _ _ ⟨0, (by omega), (by rw [cf_cpy_0 by_]; exact hP), (by rw [cf_cpy_0 by_]; exact hD), hS, lv_sub hl [1, 2, 3, 4, 0] rfl⟩
              obtain ⟨i, hik, hP, hD, hS, hl⟩ := hI
              refine lv_iload hx hb dX1_create_62 (lv_at hl 4 rfl) ?_
              refine lv_bipush (v := nI 16) hx hb dX1_create_64 (by rfl) ?_
              refine lv_icmp_ge (tgt := 88) hx hb dX1_create_66 (by decide) (fun c66 => ?_) (fun c66 => ?_)
              · have hin := nn_leE (by omega) (by omega) c66
                have h8 : i = 16 := by omega
                subst h8
                refine lv_iconst (v := 0) hx hb dX1_create_88 (by decide) ?_
                exact w_iret (S := MDt) (w := wM ad cI cZ) (cf_up sz F Z, cf_up gd F gg, cf_cpy by_ (fun _ => 0) (16 * F) 0 16, cd, tr, ver, op, sn, true, cf_cpy oz sz 0 0 6, cf_cpy og gd 0 0 6, cf_cpy ob by_ 0 0 96, cd) hx hb hr hloc hK hP hD hS dX1_create_89 (by
                                  unfold md_create
                                  rw [if_neg hbad, if_neg (by show ¬ op = true; rw [hop]; decide), nn_cl (by omega), nn_cl (by omega)]
                                  rfl)
              · have hin := nn_nleE (by omega) c66
                refine lv_aload_n hx hb dX1_create_69 rfl (lv_at hl 0 rfl) ?_
                refine va_get (D := D) (ci := 1) (v := .ref (ad 3)) (C := RX1) (T := TX1) (N := 13) hx hb hts in_X1 hown hK hP 0 rfl rfl 2 (by decide) (hts _ q140) (fun _ h9 => h9) rfl dX1_create_70 ?_
                refine lv_bipush (v := 16) hx hb dX1_create_73 (by decide) ?_
                refine lv_iload_n hx hb dX1_create_75 rfl (lv_at hl 1 rfl) ?_
                refine lv_imul hx hb dX1_create_76 ?_
                refine lv_iload hx hb dX1_create_77 (lv_at hl 4 rfl) ?_
                refine lv_iadd hx hb dX1_create_79 ?_
                refine w_top (y := nI (16 * F + i)) (nn_16 F i) ?_
                refine lv_iconst (v := 0) hx hb dX1_create_80 (by decide) ?_
                refine na_iast (f := cf_cpy by_ (fun _ => 0) (16 * F) 0 i) (g := cf_cpy by_ (fun _ => 0) (16 * F) 0 (i + 1)) (x := 0) hx hb hK hP hD hS 3 0 rfl rfl (j := 16 * F + i) (by omega) (by decide) (cf_cpy_s rfl rfl) dX1_create_81 (fun H locs hP hD hS => ?_)
                have hP : va_P D vwCl (wM ad cI cZ (cf_up sz F Z, cf_up gd F gg, cf_cpy by_ (fun _ => 0) (16 * F) 0 (i + 1), cd, tr, ver, op, sn, true, cf_cpy oz sz 0 0 6, cf_cpy og gd 0 0 6, cf_cpy ob by_ 0 0 96, cd)) H := hP
                have hD : va_D A (wM ad cI cZ (cf_up sz F Z, cf_up gd F gg, cf_cpy by_ (fun _ => 0) (16 * F) 0 (i + 1), cd, tr, ver, op, sn, true, cf_cpy oz sz 0 0 6, cf_cpy og gd 0 0 6, cf_cpy ob by_ 0 0 96, cd)) := hD
                refine lv_iinc (v := nI (i + 1)) (lv' := [(4, .int (nI (i + 1))), (0, .ref (ad 0)), (1, .int (nI F)), (2, .int (nI Z)), (3, .int (cf_b gg))]) hx hb dX1_create_82 hl (k := 4) rfl (nI_add _ 1) (by decide) rfl (fun ls hl => ?_)
                refine lv_goto (tgt := 62) hx hb dX1_create_85 (by decide) ?_
                exact ih (k - 1) (by omega) _ _ _ ⟨i + 1, by omega, hP, hD, hS, lv_sub hl [1, 2, 3, 4, 0] rfl⟩
            · have hop := cf_b_1 c35
              refine lv_bipush (v := (-2)) hx hb dX1_create_38 (by decide) ?_
              exact w_iret (S := MDt) (w := wM ad cI cZ) (sz, gd, by_, cd, tr, ver, op, sn, ch, oz, og, ob, oc) hx hb hr hloc hK hP hD hS dX1_create_40 (by
                              unfold md_create
                              rw [if_neg hbad, if_pos (show md_op (sz, gd, by_, cd, tr, ver, op, sn, ch, oz, og, ob, oc) = true from hop)])
          · refine lv_iconst (v := (-1)) hx hb dX1_create_29 (by decide) ?_
            exact w_iret (S := MDt) (w := wM ad cI cZ) (sz, gd, by_, cd, tr, ver, op, sn, ch, oz, og, ob, oc) hx hb hr hloc hK hP hD hS dX1_create_30 (if_pos (Or.inr (Or.inr (Or.inr (Or.inr (Int32.not_le.mp c26)))))).symm
set_option maxHeartbeats 4000000 in
set_option maxRecDepth 100000 in
/-- refuse(file, offset) -/
theorem mX1_refuse (l : Launch) (D : va_G) (ad : Nat → Nat) (cI cZ : ClassId) (v : MDt) (f o : Int32) : MCi l yX1_refuse cX1_refuse 3 ({ frames := 0, cells := 0, slots := 0, locals := 0 }) D (tyW cI cZ) [.ref (ad 0), .int f, .int o] (wM ad cI cZ v) (fun r v1 => r = md_refuse v f o ∧ v1 = v) (wM ad cI cZ) := by
  obtain ⟨sz, gd, by_, cd, tr, ver, op, sn, ch, oz, og, ob, oc⟩ := v
  unfold MCi
  refine mc_start (Qk := fun A => va_Qi _ (fun u t => bW D (tyW cI cZ) A (wM ad cI cZ u) t) A) (by decide) (Nat.le_of_ble_eq_true rfl) ?_
  intro p e s m below meth c A hx hb hr hml hown hts hloc hnm hK hP hD hA hS ls hl
  have hown : s.vm.findClass RX1 = some m.cls := hown
  have hl : lv_has ls 3 [(0, .ref (ad 0)), (1, .int f), (2, .int o)] := hl
  refine lv_iload_n hx hb dX1_refuse_0 rfl (lv_at hl 1 rfl) ?_
  refine lv_if_lt (tgt := 23) hx hb dX1_refuse_1 (by decide) (fun c1 => ?_) (fun c1 => ?_)
  · refine lv_iconst (v := (-1)) hx hb dX1_refuse_23 (by decide) ?_
    exact w_iret (S := MDt) (w := wM ad cI cZ) (sz, gd, by_, cd, tr, ver, op, sn, ch, oz, og, ob, oc) hx hb hr hloc hK hP hD hS dX1_refuse_24 ⟨(if_pos (Or.inl c1)).symm, rfl⟩
  · refine lv_iload_n hx hb dX1_refuse_4 rfl (lv_at hl 1 rfl) ?_
    refine lv_iconst (v := 5) hx hb dX1_refuse_5 (by decide) ?_
    refine lv_icmp_gt (tgt := 23) hx hb dX1_refuse_6 (by decide) (fun c6 => ?_) (fun c6 => ?_)
    · refine lv_iconst (v := (-1)) hx hb dX1_refuse_23 (by decide) ?_
      exact w_iret (S := MDt) (w := wM ad cI cZ) (sz, gd, by_, cd, tr, ver, op, sn, ch, oz, og, ob, oc) hx hb hr hloc hK hP hD hS dX1_refuse_24 ⟨(if_pos (Or.inr (Or.inl c6))).symm, rfl⟩
    · obtain ⟨F, hF, rfl⟩ := nn_F c1 (Int32.not_lt.mp c6)
      have hsz : md_sz (sz, gd, by_, cd, tr, ver, op, sn, ch, oz, og, ob, oc) (nI F).toNatClampNeg = sz F := by rw [nn_cl (by omega)]; rfl
      refine lv_iload_n hx hb dX1_refuse_9 rfl (lv_at hl 2 rfl) ?_
      refine lv_if_lt (tgt := 23) hx hb dX1_refuse_10 (by decide) (fun c10 => ?_) (fun c10 => ?_)
      · refine lv_iconst (v := (-1)) hx hb dX1_refuse_23 (by decide) ?_
        exact w_iret (S := MDt) (w := wM ad cI cZ) (sz, gd, by_, cd, tr, ver, op, sn, ch, oz, og, ob, oc) hx hb hr hloc hK hP hD hS dX1_refuse_24 ⟨(if_pos (Or.inr (Or.inr (Or.inl c10)))).symm, rfl⟩
      · refine lv_iload_n hx hb dX1_refuse_13 rfl (lv_at hl 2 rfl) ?_
        refine lv_aload_n hx hb dX1_refuse_14 rfl (lv_at hl 0 rfl) ?_
        refine va_get (D := D) (ci := 1) (v := .ref (ad 1)) (C := RX1) (T := TX1) (N := 13) hx hb hts in_X1 hown hK hP 0 rfl rfl 0 (by decide) (hts _ q138) (fun _ h9 => h9) rfl dX1_refuse_15 ?_
        refine lv_iload_n hx hb dX1_refuse_18 rfl (lv_at hl 1 rfl) ?_
        refine na_iald (f := fun k => nI (sz k)) hx hb hK hP 1 0 rfl rfl (j := F) (by omega) (by decide) dX1_refuse_19 ?_
        refine w_top (y := nI (sz F)) rfl ?_
        refine lv_icmp_lt (tgt := 25) hx hb dX1_refuse_20 (by decide) (fun c20 => ?_) (fun c20 => ?_)
        · have hbad : ¬ (nI F < 0 ∨ 5 < nI F ∨ o < 0 ∨ nI (md_sz (sz, gd, by_, cd, tr, ver, op, sn, ch, oz, og, ob, oc) (nI F).toNatClampNeg) ≤ o) := by
            rw [hsz]
            rintro (q | q | q | q)
            · exact c1 q
            · exact c6 q
            · exact c10 q
            · exact Int32.not_le.mpr c20 q
          refine lv_aload_n hx hb dX1_refuse_25 rfl (lv_at hl 0 rfl) ?_
          refine va_get (D := D) (ci := 1) (v := .ref (ad 2)) (C := RX1) (T := TX1) (N := 13) hx hb hts in_X1 hown hK hP 0 rfl rfl 1 (by decide) (hts _ q139) (fun _ h9 => h9) rfl dX1_refuse_26 ?_
          refine lv_iload_n hx hb dX1_refuse_29 rfl (lv_at hl 1 rfl) ?_
          refine na_zald (g := gd) hx hb hK hP 2 1 rfl rfl (j := F) (by omega) (by decide) dX1_refuse_30 ?_
          refine lv_if_eq (tgt := 46) hx hb dX1_refuse_31 (by decide) (fun c31 => ?_) (fun c31 => ?_)
          · have hg := cf_b_0 c31
            refine lv_iconst (v := 0) hx hb dX1_refuse_46 (by decide) ?_
            exact w_iret (S := MDt) (w := wM ad cI cZ) (sz, gd, by_, cd, tr, ver, op, sn, ch, oz, og, ob, oc) hx hb hr hloc hK hP hD hS dX1_refuse_47 ⟨(by
                          unfold md_refuse
                          rw [if_neg hbad, nn_cl (by omega), if_neg (by show ¬ gd F = true; rw [hg]; decide)]), rfl⟩
          · have hg := cf_b_1 c31
            refine lv_aload_n hx hb dX1_refuse_34 rfl (lv_at hl 0 rfl) ?_
            refine va_get (D := D) (ci := 1) (v := .int (cf_b ver)) (C := RX1) (T := TX1) (N := 13) hx hb hts in_X1 hown hK hP 0 rfl rfl 5 (by decide) (hts _ q143) (fun _ h9 => h9) rfl dX1_refuse_35 ?_
            refine lv_if_ne (tgt := 46) hx hb dX1_refuse_38 (by decide) (fun c38 => ?_) (fun c38 => ?_)
            · refine lv_iconst (v := 0) hx hb dX1_refuse_46 (by decide) ?_
              exact w_iret (S := MDt) (w := wM ad cI cZ) (sz, gd, by_, cd, tr, ver, op, sn, ch, oz, og, ob, oc) hx hb hr hloc hK hP hD hS dX1_refuse_47 ⟨(by
                              unfold md_refuse
                              rw [if_neg hbad, nn_cl (by omega), if_pos (show md_gd (sz, gd, by_, cd, tr, ver, op, sn, ch, oz, og, ob, oc) F = true from hg), if_pos (show md_ver (sz, gd, by_, cd, tr, ver, op, sn, ch, oz, og, ob, oc) = true from cf_b_1 c38)]), rfl⟩
            · have hv0 := cf_b_0 c38
              refine lv_bipush (v := (-3)) hx hb dX1_refuse_41 (by decide) ?_
              refine lv_goto (tgt := 47) hx hb dX1_refuse_43 (by decide) ?_
              exact w_iret (S := MDt) (w := wM ad cI cZ) (sz, gd, by_, cd, tr, ver, op, sn, ch, oz, og, ob, oc) hx hb hr hloc hK hP hD hS dX1_refuse_47 ⟨(by
                              unfold md_refuse
                              rw [if_neg hbad, nn_cl (by omega), if_pos (show md_gd (sz, gd, by_, cd, tr, ver, op, sn, ch, oz, og, ob, oc) F = true from hg), if_neg (by show ¬ ver = true; rw [hv0]; decide)]), rfl⟩
        · refine lv_iconst (v := (-1)) hx hb dX1_refuse_23 (by decide) ?_
          exact w_iret (S := MDt) (w := wM ad cI cZ) (sz, gd, by_, cd, tr, ver, op, sn, ch, oz, og, ob, oc) hx hb hr hloc hK hP hD hS dX1_refuse_24 ⟨(if_pos (Or.inr (Or.inr (Or.inr (by rw [hsz]; exact Int32.not_lt.mp c20))))).symm, rfl⟩
set_option maxHeartbeats 4000000 in
set_option maxRecDepth 100000 in
/-- update(file, offset, value) -/
theorem mX1_update (l : Launch) (D : va_G) (ad : Nat → Nat) (cI cZ : ClassId) (v : MDt) (f o vv : Int32) (hv : md_ok v) : MCi l yX1_update cX1_update 5 ({ frames := 1, cells := 0, slots := 0, locals := 22 }) D (tyW cI cZ) [.ref (ad 0), .int f, .int o, .int vv] (wM ad cI cZ v) (fun r v1 => (r, v1) = md_update v f o vv) (wM ad cI cZ) := by
  obtain ⟨sz, gd, by_, cd, tr, ver, op, sn, ch, oz, og, ob, oc⟩ := v
  unfold MCi
  refine mc_start (Qk := fun A => va_Qi _ (fun u t => bW D (tyW cI cZ) A (wM ad cI cZ u) t) A) (by decide) (Nat.le_of_ble_eq_true rfl) ?_
  intro p e s m below meth c A hx hb hr hml hown hts hloc hnm hK hP hD hA hS ls hl
  have hown : s.vm.findClass RX1 = some m.cls := hown
  have hl : lv_has ls 5 [(0, .ref (ad 0)), (1, .int f), (2, .int o), (3, .int vv)] := hl
  refine lv_aload_n hx hb dX1_update_0 rfl (lv_at hl 0 rfl) ?_
  refine lv_iload_n hx hb dX1_update_1 rfl (lv_at hl 1 rfl) ?_
  refine lv_iload_n hx hb dX1_update_2 rfl (lv_at hl 2 rfl) ?_
  refine w_calli (wr := []) (mX1_refuse l D ad cI cZ (sz, gd, by_, cd, tr, ver, op, sn, ch, oz, og, ob, oc) f o) [0, 1, 2, 3, 4, 5, 6, 7] [] 0 ⟨hx, hb, hml, hown, hts⟩ (cwV 2 hts (lw_V q190 q192 qs9 q12 q193) rfl rfl rfl (by decide +kernel) ⟨Nat.le_of_ble_eq_true rfl, Nat.le_of_ble_eq_true rfl⟩) hP hD hK hS hA rfl rfl rfl rfl (by decide) rfl rfl rfl hl.1 rfl (Nat.le_of_ble_eq_true rfl) dX1_update_3 ⟨Nat.zero_le _, Nat.zero_le _⟩ (fun r u H locs hw hP hD hS => ?_)
  obtain ⟨rfl, rfl⟩ := hw
  have hP : va_P D vwCl (wM ad cI cZ (sz, gd, by_, cd, tr, ver, op, sn, ch, oz, og, ob, oc)) H := hP
  have hD : va_D A (wM ad cI cZ (sz, gd, by_, cd, tr, ver, op, sn, ch, oz, og, ob, oc)) := hD
  refine lv_istore (lv' := [(4, .int (md_refuse (sz, gd, by_, cd, tr, ver, op, sn, ch, oz, og, ob, oc) f o)), (0, .ref (ad 0)), (1, .int f), (2, .int o), (3, .int vv)]) hx hb dX1_update_6 hl (by decide) rfl (fun ls hl => ?_)
  refine lv_iload hx hb dX1_update_8 (lv_at hl 0 rfl) ?_
  refine lv_if_ge (tgt := 16) hx hb dX1_update_10 (by decide) (fun c10 => ?_) (fun c10 => ?_)
  · have c10 := Int32.not_lt.mpr c10
    obtain ⟨F, O, hF, hO, rfl, rfl⟩ := md_refuse_ge hv c10
    have hix : md_ix (nI F) (nI O) = (16 * F + O) := by unfold md_ix; rw [nn_cl (by omega), nn_cl (by omega)]
    refine lv_aload_n hx hb dX1_update_16 rfl (lv_at hl 1 rfl) ?_
    refine va_get (D := D) (ci := 1) (v := .int (cf_b op)) (C := RX1) (T := TX1) (N := 13) hx hb hts in_X1 hown hK hP 0 rfl rfl 6 (by decide) (hts _ q144) (fun _ h9 => h9) rfl dX1_update_17 ?_
    refine lv_if_eq (tgt := 41) hx hb dX1_update_20 (by decide) (fun c20 => ?_) (fun c20 => ?_)
    · have hop := cf_b_0 c20
      refine lv_aload_n hx hb dX1_update_41 rfl (lv_at hl 1 rfl) ?_
      refine w_callv (wr := []) (mX1_keep l D ad cI cZ (sz, gd, by_, cd, tr, ver, op, sn, ch, oz, og, ob, oc)) [0, 1, 2, 3, 4, 5, 6, 7] [] 0 ⟨hx, hb, hml, hown, hts⟩ (cwV 0 hts (lw_V q182 q184 qs8 q12 q185) rfl rfl rfl (by decide +kernel) ⟨Nat.le_of_ble_eq_true rfl, Nat.le_of_ble_eq_true rfl⟩) hP hD hK hS hA rfl rfl rfl rfl (by decide) rfl rfl rfl hl.1 rfl (Nat.le_of_ble_eq_true rfl) dX1_update_42 ⟨Nat.zero_le _, Nat.zero_le _⟩ (fun u H locs hw hP hD hS => ?_)
      subst hw
      have hP : va_P D vwCl (wM ad cI cZ (sz, gd, by_, cd, tr, ver, op, sn, true, cf_cpy oz sz 0 0 6, cf_cpy og gd 0 0 6, cf_cpy ob by_ 0 0 96, cd)) H := hP
      have hD : va_D A (wM ad cI cZ (sz, gd, by_, cd, tr, ver, op, sn, true, cf_cpy oz sz 0 0 6, cf_cpy og gd 0 0 6, cf_cpy ob by_ 0 0 96, cd)) := hD
      refine lv_aload_n hx hb dX1_update_45 rfl (lv_at hl 1 rfl) ?_
      refine va_get (D := D) (ci := 1) (v := .ref (ad 3)) (C := RX1) (T := TX1) (N := 13) hx hb hts in_X1 hown hK hP 0 rfl rfl 2 (by decide) (hts _ q140) (fun _ h9 => h9) rfl dX1_update_46 ?_
      refine lv_bipush (v := 16) hx hb dX1_update_49 (by decide) ?_
      refine lv_iload_n hx hb dX1_update_51 rfl (lv_at hl 2 rfl) ?_
      refine lv_imul hx hb dX1_update_52 ?_
      refine lv_iload_n hx hb dX1_update_53 rfl (lv_at hl 3 rfl) ?_
      refine lv_iadd hx hb dX1_update_54 ?_
      refine w_top (y := nI (16 * F + O)) (nn_16 F O) ?_
      refine lv_iload_n hx hb dX1_update_55 rfl (lv_at hl 4 rfl) ?_
      refine lv_sipush (v := 255) hx hb dX1_update_56 (by decide) ?_
      refine lv_iand hx hb dX1_update_59 ?_
      refine na_iast (f := by_) (g := cf_up by_ (16 * F + O) (vv &&& 255)) (x := (vv &&& 255)) hx hb hK hP hD hS 3 0 rfl rfl (j := 16 * F + O) (by omega) (by decide) rfl dX1_update_60 (fun H locs hP hD hS => ?_)
      have hP : va_P D vwCl (wM ad cI cZ (sz, gd, cf_up by_ (16 * F + O) (vv &&& 255), cd, tr, ver, op, sn, true, cf_cpy oz sz 0 0 6, cf_cpy og gd 0 0 6, cf_cpy ob by_ 0 0 96, cd)) H := hP
      have hD : va_D A (wM ad cI cZ (sz, gd, cf_up by_ (16 * F + O) (vv &&& 255), cd, tr, ver, op, sn, true, cf_cpy oz sz 0 0 6, cf_cpy og gd 0 0 6, cf_cpy ob by_ 0 0 96, cd)) := hD
      refine lv_iconst (v := 0) hx hb dX1_update_61 (by decide) ?_
      exact w_iret (S := MDt) (w := wM ad cI cZ) (sz, gd, cf_up by_ (16 * F + O) (vv &&& 255), cd, tr, ver, op, sn, true, cf_cpy oz sz 0 0 6, cf_cpy og gd 0 0 6, cf_cpy ob by_ 0 0 96, cd) hx hb hr hloc hK hP hD hS dX1_update_62 (by
              unfold md_update
              rw [if_neg c10, if_neg (by show ¬ op = true; rw [hop]; decide), hix]
              rfl)
    · have hop := cf_b_1 c20
      refine lv_aload_n hx hb dX1_update_23 rfl (lv_at hl 1 rfl) ?_
      refine va_get (D := D) (ci := 1) (v := .ref (ad 4)) (C := RX1) (T := TX1) (N := 13) hx hb hts in_X1 hown hK hP 0 rfl rfl 7 (by decide) (hts _ q145) (fun _ h9 => h9) rfl dX1_update_24 ?_
      refine lv_bipush (v := 16) hx hb dX1_update_27 (by decide) ?_
      refine lv_iload_n hx hb dX1_update_29 rfl (lv_at hl 2 rfl) ?_
      refine lv_imul hx hb dX1_update_30 ?_
      refine lv_iload_n hx hb dX1_update_31 rfl (lv_at hl 3 rfl) ?_
      refine lv_iadd hx hb dX1_update_32 ?_
      refine w_top (y := nI (16 * F + O)) (nn_16 F O) ?_
      refine lv_iload_n hx hb dX1_update_33 rfl (lv_at hl 4 rfl) ?_
      refine lv_sipush (v := 255) hx hb dX1_update_34 (by decide) ?_
      refine lv_iand hx hb dX1_update_37 ?_
      refine na_iast (f := sn) (g := cf_up sn (16 * F + O) (vv &&& 255)) (x := (vv &&& 255)) hx hb hK hP hD hS 4 0 rfl rfl (j := 16 * F + O) (by omega) (by decide) rfl dX1_update_38 (fun H locs hP hD hS => ?_)
      have hP : va_P D vwCl (wM ad cI cZ (sz, gd, by_, cd, tr, ver, op, cf_up sn (16 * F + O) (vv &&& 255), ch, oz, og, ob, oc)) H := hP
      have hD : va_D A (wM ad cI cZ (sz, gd, by_, cd, tr, ver, op, cf_up sn (16 * F + O) (vv &&& 255), ch, oz, og, ob, oc)) := hD
      refine lv_iconst (v := 0) hx hb dX1_update_39 (by decide) ?_
      exact w_iret (S := MDt) (w := wM ad cI cZ) (sz, gd, by_, cd, tr, ver, op, cf_up sn (16 * F + O) (vv &&& 255), ch, oz, og, ob, oc) hx hb hr hloc hK hP hD hS dX1_update_40 (by
              unfold md_update
              rw [if_neg c10, if_pos (show md_op (sz, gd, by_, cd, tr, ver, op, sn, ch, oz, og, ob, oc) = true from hop), hix]
              rfl)
  · have c10 := Int32.not_le.mp c10
    refine lv_iload hx hb dX1_update_13 (lv_at hl 0 rfl) ?_
    exact w_iret (S := MDt) (w := wM ad cI cZ) (sz, gd, by_, cd, tr, ver, op, sn, ch, oz, og, ob, oc) hx hb hr hloc hK hP hD hS dX1_update_15 (by
          unfold md_update
          rw [if_pos c10])
set_option maxHeartbeats 4000000 in
set_option maxRecDepth 100000 in
/-- read(file, offset) -/
theorem mX1_read (l : Launch) (D : va_G) (ad : Nat → Nat) (cI cZ : ClassId) (v : MDt) (f o : Int32) (hv : md_ok v) : MCi l yX1_read cX1_read 4 ({ frames := 1, cells := 0, slots := 0, locals := 22 }) D (tyW cI cZ) [.ref (ad 0), .int f, .int o] (wM ad cI cZ v) (fun r v1 => r = md_read v f o ∧ v1 = v) (wM ad cI cZ) := by
  obtain ⟨sz, gd, by_, cd, tr, ver, op, sn, ch, oz, og, ob, oc⟩ := v
  unfold MCi
  refine mc_start (Qk := fun A => va_Qi _ (fun u t => bW D (tyW cI cZ) A (wM ad cI cZ u) t) A) (by decide) (Nat.le_of_ble_eq_true rfl) ?_
  intro p e s m below meth c A hx hb hr hml hown hts hloc hnm hK hP hD hA hS ls hl
  have hown : s.vm.findClass RX1 = some m.cls := hown
  have hl : lv_has ls 4 [(0, .ref (ad 0)), (1, .int f), (2, .int o)] := hl
  refine lv_aload_n hx hb dX1_read_0 rfl (lv_at hl 0 rfl) ?_
  refine lv_iload_n hx hb dX1_read_1 rfl (lv_at hl 1 rfl) ?_
  refine lv_iload_n hx hb dX1_read_2 rfl (lv_at hl 2 rfl) ?_
  refine w_calli (wr := []) (mX1_refuse l D ad cI cZ (sz, gd, by_, cd, tr, ver, op, sn, ch, oz, og, ob, oc) f o) [0, 1, 2, 3, 4, 5, 6, 7] [] 0 ⟨hx, hb, hml, hown, hts⟩ (cwV 2 hts (lw_V q190 q192 qs9 q12 q193) rfl rfl rfl (by decide +kernel) ⟨Nat.le_of_ble_eq_true rfl, Nat.le_of_ble_eq_true rfl⟩) hP hD hK hS hA rfl rfl rfl rfl (by decide) rfl rfl rfl hl.1 rfl (Nat.le_of_ble_eq_true rfl) dX1_read_3 ⟨Nat.zero_le _, Nat.zero_le _⟩ (fun r u H locs hw hP hD hS => ?_)
  obtain ⟨rfl, rfl⟩ := hw
  have hP : va_P D vwCl (wM ad cI cZ (sz, gd, by_, cd, tr, ver, op, sn, ch, oz, og, ob, oc)) H := hP
  have hD : va_D A (wM ad cI cZ (sz, gd, by_, cd, tr, ver, op, sn, ch, oz, og, ob, oc)) := hD
  refine lv_istore_n (lv' := [(3, .int (md_refuse (sz, gd, by_, cd, tr, ver, op, sn, ch, oz, og, ob, oc) f o)), (0, .ref (ad 0)), (1, .int f), (2, .int o)]) hx hb dX1_read_6 rfl hl (by decide) rfl (fun ls hl => ?_)
  refine lv_iload_n hx hb dX1_read_7 rfl (lv_at hl 0 rfl) ?_
  refine lv_if_ge (tgt := 13) hx hb dX1_read_8 (by decide) (fun c8 => ?_) (fun c8 => ?_)
  · have c8 := Int32.not_lt.mpr c8
    obtain ⟨F, O, hF, hO, rfl, rfl⟩ := md_refuse_ge hv c8
    have hix : md_ix (nI F) (nI O) = (16 * F + O) := by unfold md_ix; rw [nn_cl (by omega), nn_cl (by omega)]
    refine lv_aload_n hx hb dX1_read_13 rfl (lv_at hl 1 rfl) ?_
    refine va_get (D := D) (ci := 1) (v := .int (cf_b op)) (C := RX1) (T := TX1) (N := 13) hx hb hts in_X1 hown hK hP 0 rfl rfl 6 (by decide) (hts _ q144) (fun _ h9 => h9) rfl dX1_read_14 ?_
    refine lv_if_eq (tgt := 34) hx hb dX1_read_17 (by decide) (fun c17 => ?_) (fun c17 => ?_)
    · have hop := cf_b_0 c17
      refine lv_aload_n hx hb dX1_read_34 rfl (lv_at hl 1 rfl) ?_
      refine va_get (D := D) (ci := 1) (v := .ref (ad 3)) (C := RX1) (T := TX1) (N := 13) hx hb hts in_X1 hown hK hP 0 rfl rfl 2 (by decide) (hts _ q140) (fun _ h9 => h9) rfl dX1_read_35 ?_
      refine lv_bipush (v := 16) hx hb dX1_read_38 (by decide) ?_
      refine lv_iload_n hx hb dX1_read_40 rfl (lv_at hl 2 rfl) ?_
      refine lv_imul hx hb dX1_read_41 ?_
      refine lv_iload_n hx hb dX1_read_42 rfl (lv_at hl 3 rfl) ?_
      refine lv_iadd hx hb dX1_read_43 ?_
      refine w_top (y := nI (16 * F + O)) (nn_16 F O) ?_
      refine na_iald (f := by_) hx hb hK hP 3 0 rfl rfl (j := 16 * F + O) (by omega) (by decide) dX1_read_44 ?_
      exact w_iret (S := MDt) (w := wM ad cI cZ) (sz, gd, by_, cd, tr, ver, op, sn, ch, oz, og, ob, oc) hx hb hr hloc hK hP hD hS dX1_read_45 ⟨(by
              unfold md_read
              rw [if_neg c8, hix]
              show _ = if op = true then _ else _
              rw [hop, if_neg (by decide)]), rfl⟩
    · have hop := cf_b_1 c17
      refine lv_aload_n hx hb dX1_read_20 rfl (lv_at hl 1 rfl) ?_
      refine va_get (D := D) (ci := 1) (v := .ref (ad 4)) (C := RX1) (T := TX1) (N := 13) hx hb hts in_X1 hown hK hP 0 rfl rfl 7 (by decide) (hts _ q145) (fun _ h9 => h9) rfl dX1_read_21 ?_
      refine lv_bipush (v := 16) hx hb dX1_read_24 (by decide) ?_
      refine lv_iload_n hx hb dX1_read_26 rfl (lv_at hl 2 rfl) ?_
      refine lv_imul hx hb dX1_read_27 ?_
      refine lv_iload_n hx hb dX1_read_28 rfl (lv_at hl 3 rfl) ?_
      refine lv_iadd hx hb dX1_read_29 ?_
      refine w_top (y := nI (16 * F + O)) (nn_16 F O) ?_
      refine na_iald (f := sn) hx hb hK hP 4 0 rfl rfl (j := 16 * F + O) (by omega) (by decide) dX1_read_30 ?_
      refine lv_goto (tgt := 45) hx hb dX1_read_31 (by decide) ?_
      exact w_iret (S := MDt) (w := wM ad cI cZ) (sz, gd, by_, cd, tr, ver, op, sn, ch, oz, og, ob, oc) hx hb hr hloc hK hP hD hS dX1_read_45 ⟨(by
              unfold md_read
              rw [if_neg c8, hix]
              show _ = if op = true then _ else _
              rw [if_pos hop]), rfl⟩
  · have c8 := Int32.not_le.mp c8
    refine lv_iload_n hx hb dX1_read_11 rfl (lv_at hl 0 rfl) ?_
    exact w_iret (S := MDt) (w := wM ad cI cZ) (sz, gd, by_, cd, tr, ver, op, sn, ch, oz, og, ob, oc) hx hb hr hloc hK hP hD hS dX1_read_12 ⟨(by
          unfold md_read
          rw [if_pos c8]), rfl⟩
set_option maxHeartbeats 4000000 in
set_option maxRecDepth 100000 in
/-- begin() -/
theorem mX1_begin (l : Launch) (D : va_G) (ad : Nat → Nat) (cI cZ : ClassId) (v : MDt) : MCi l yX1_begin cX1_begin 2 ({ frames := 0, cells := 0, slots := 0, locals := 0 }) D (tyW cI cZ) [.ref (ad 0)] (wM ad cI cZ v) (fun r v1 => (r, v1) = md_begin v) (wM ad cI cZ) := by
  obtain ⟨sz, gd, by_, cd, tr, ver, op, sn, ch, oz, og, ob, oc⟩ := v
  unfold MCi
  refine mc_start (Qk := fun A => va_Qi _ (fun u t => bW D (tyW cI cZ) A (wM ad cI cZ u) t) A) (by decide) (Nat.le_of_ble_eq_true rfl) ?_
  intro p e s m below meth c A hx hb hr hml hown hts hloc hnm hK hP hD hA hS ls hl
  have hown : s.vm.findClass RX1 = some m.cls := hown
  have hl : lv_has ls 2 [(0, .ref (ad 0))] := hl
  refine lv_aload_n hx hb dX1_begin_0 rfl (lv_at hl 0 rfl) ?_
  refine va_get (D := D) (ci := 1) (v := .int (cf_b op)) (C := RX1) (T := TX1) (N := 13) hx hb hts in_X1 hown hK hP 0 rfl rfl 6 (by decide) (hts _ q144) (fun _ h9 => h9) rfl dX1_begin_1 ?_
  refine lv_if_eq (tgt := 10) hx hb dX1_begin_4 (by decide) (fun c4 => ?_) (fun c4 => ?_)
  · have hop := cf_b_0 c4
    refine lv_aload_n hx hb dX1_begin_10 rfl (lv_at hl 0 rfl) ?_
    refine lv_iconst (v := cf_b true) hx hb dX1_begin_11 (by rfl) ?_
    refine va_put (D := D) (ci := 1) (v := .int (cf_b true)) (ty := .boolean) (C := RX1) (T := TX1) (N := 13) hx hb hts in_X1 tyX1 tyX1_ok nmX1 hown hK hP hD hS 0 rfl rfl 6 (by decide) (hts _ q144) (fun _ h9 => h9) rfl (by decide +kernel) (cf_b_fit _).1 (cf_b_fit _).2 (Nat.le_of_ble_eq_true rfl) dX1_begin_12 (fun H locs hP hD hS => ?_)
    have hP : va_P D vwCl (wM ad cI cZ (sz, gd, by_, cd, tr, ver, true, sn, ch, oz, og, ob, oc)) H := hP
    have hD : va_D A (wM ad cI cZ (sz, gd, by_, cd, tr, ver, true, sn, ch, oz, og, ob, oc)) := hD
    refine lv_iconst (v := nI 0) hx hb dX1_begin_15 (by rfl) ?_
    refine lv_istore_n (lv' := [(1, .int (nI 0)), (0, .ref (ad 0))]) hx hb dX1_begin_16 rfl hl (by decide) rfl (fun ls hl => ?_)
    refine w_loop (pc := 17) (fun k H locs ls => ∃ i : Nat, i + k = 96 ∧ va_P D vwCl (wM ad cI cZ (sz, gd, by_, cd, tr, ver, true, cf_cpy sn by_ 0 0 i, ch, oz, og, ob, oc)) H ∧ va_D A (wM ad cI cZ (sz, gd, by_, cd, tr, ver, true, cf_cpy sn by_ 0 0 i, ch, oz, og, ob, oc)) ∧ va_S A s.heap H locs ∧ lv_has ls 2 [(0, .ref (ad 0)), (1, .int (nI i))]) (fun k ih H locs ls hI => ?_) 96 _ _ _ ⟨0, (by omega), (by rw [cf_cpy_0]; exact hP), (by rw [cf_cpy_0]; exact hD), hS, lv_sub hl [1, 0] rfl⟩
    obtain ⟨i, hik, hP, hD, hS, hl⟩ := hI
    refine lv_iload_n hx hb dX1_begin_17 rfl (lv_at hl 1 rfl) ?_
    refine lv_bipush (v := nI 96) hx hb dX1_begin_18 (by rfl) ?_
    refine lv_icmp_ge (tgt := 41) hx hb dX1_begin_20 (by decide) (fun c20 => ?_) (fun c20 => ?_)
    · have hin := nn_leE (by omega) (by omega) c20
      have h8 : i = 96 := by omega
      subst h8
      refine lv_iconst (v := 0) hx hb dX1_begin_41 (by decide) ?_
      exact w_iret (S := MDt) (w := wM ad cI cZ) (sz, gd, by_, cd, tr, ver, true, cf_cpy sn by_ 0 0 96, ch, oz, og, ob, oc) hx hb hr hloc hK hP hD hS dX1_begin_42 (by
              unfold md_begin
              rw [if_neg (by show ¬ op = true; rw [hop]; decide)]
              rfl)
    · have hin := nn_nleE (by omega) c20
      refine lv_aload_n hx hb dX1_begin_23 rfl (lv_at hl 0 rfl) ?_
      refine va_get (D := D) (ci := 1) (v := .ref (ad 4)) (C := RX1) (T := TX1) (N := 13) hx hb hts in_X1 hown hK hP 0 rfl rfl 7 (by decide) (hts _ q145) (fun _ h9 => h9) rfl dX1_begin_24 ?_
      refine lv_iload_n hx hb dX1_begin_27 rfl (lv_at hl 1 rfl) ?_
      refine lv_aload_n hx hb dX1_begin_28 rfl (lv_at hl 0 rfl) ?_
      refine va_get (D := D) (ci := 1) (v := .ref (ad 3)) (C := RX1) (T := TX1) (N := 13) hx hb hts in_X1 hown hK hP 0 rfl rfl 2 (by decide) (hts _ q140) (fun _ h9 => h9) rfl dX1_begin_29 ?_
      refine lv_iload_n hx hb dX1_begin_32 rfl (lv_at hl 1 rfl) ?_
      refine na_iald (f := by_) hx hb hK hP 3 0 rfl rfl (j := i) (by omega) (by decide) dX1_begin_33 ?_
      refine na_iast (f := cf_cpy sn by_ 0 0 i) (g := cf_cpy sn by_ 0 0 (i + 1)) (x := (by_ i)) hx hb hK hP hD hS 4 0 rfl rfl (j := i) (by omega) (by decide) (cf_cpy_s (by omega) (by rw [Nat.zero_add])) dX1_begin_34 (fun H locs hP hD hS => ?_)
      have hP : va_P D vwCl (wM ad cI cZ (sz, gd, by_, cd, tr, ver, true, cf_cpy sn by_ 0 0 (i + 1), ch, oz, og, ob, oc)) H := hP
      have hD : va_D A (wM ad cI cZ (sz, gd, by_, cd, tr, ver, true, cf_cpy sn by_ 0 0 (i + 1), ch, oz, og, ob, oc)) := hD
      refine lv_iinc (v := nI (i + 1)) (lv' := [(1, .int (nI (i + 1))), (0, .ref (ad 0))]) hx hb dX1_begin_35 hl (k := 1) rfl (nI_add _ 1) (by decide) rfl (fun ls hl => ?_)
      refine lv_goto (tgt := 17) hx hb dX1_begin_38 (by decide) ?_
      exact ih (k - 1) (by omega) _ _ _ ⟨i + 1, by omega, hP, hD, hS, lv_sub hl [1, 0] rfl⟩
  · have hop := cf_b_1 c4
    refine lv_bipush (v := (-2)) hx hb dX1_begin_7 (by decide) ?_
    exact w_iret (S := MDt) (w := wM ad cI cZ) (sz, gd, by_, cd, tr, ver, op, sn, ch, oz, og, ob, oc) hx hb hr hloc hK hP hD hS dX1_begin_9 (by
          unfold md_begin
          rw [if_pos (show md_op (sz, gd, by_, cd, tr, ver, op, sn, ch, oz, og, ob, oc) = true from hop)])
set_option maxHeartbeats 4000000 in
set_option maxRecDepth 100000 in
/-- commit() -/
theorem mX1_commit (l : Launch) (D : va_G) (ad : Nat → Nat) (cI cZ : ClassId) (v : MDt) : MCi l yX1_commit cX1_commit 2 ({ frames := 1, cells := 0, slots := 0, locals := 21 }) D (tyW cI cZ) [.ref (ad 0)] (wM ad cI cZ v) (fun r v1 => (r, v1) = md_commit v) (wM ad cI cZ) := by
  obtain ⟨sz, gd, by_, cd, tr, ver, op, sn, ch, oz, og, ob, oc⟩ := v
  unfold MCi
  refine mc_start (Qk := fun A => va_Qi _ (fun u t => bW D (tyW cI cZ) A (wM ad cI cZ u) t) A) (by decide) (Nat.le_of_ble_eq_true rfl) ?_
  intro p e s m below meth c A hx hb hr hml hown hts hloc hnm hK hP hD hA hS ls hl
  have hown : s.vm.findClass RX1 = some m.cls := hown
  have hl : lv_has ls 2 [(0, .ref (ad 0))] := hl
  refine lv_aload_n hx hb dX1_commit_0 rfl (lv_at hl 0 rfl) ?_
  refine va_get (D := D) (ci := 1) (v := .int (cf_b op)) (C := RX1) (T := TX1) (N := 13) hx hb hts in_X1 hown hK hP 0 rfl rfl 6 (by decide) (hts _ q144) (fun _ h9 => h9) rfl dX1_commit_1 ?_
  refine lv_if_ne (tgt := 10) hx hb dX1_commit_4 (by decide) (fun c4 => ?_) (fun c4 => ?_)
  · have hop := cf_b_1 c4
    refine lv_aload_n hx hb dX1_commit_10 rfl (lv_at hl 0 rfl) ?_
    refine w_callv (wr := []) (mX1_keep l D ad cI cZ (sz, gd, by_, cd, tr, ver, op, sn, ch, oz, og, ob, oc)) [0, 1, 2, 3, 4, 5, 6, 7] [] 0 ⟨hx, hb, hml, hown, hts⟩ (cwV 0 hts (lw_V q182 q184 qs8 q12 q185) rfl rfl rfl (by decide +kernel) ⟨Nat.le_of_ble_eq_true rfl, Nat.le_of_ble_eq_true rfl⟩) hP hD hK hS hA rfl rfl rfl rfl (by decide) rfl rfl rfl hl.1 rfl (Nat.le_of_ble_eq_true rfl) dX1_commit_11 ⟨Nat.zero_le _, Nat.zero_le _⟩ (fun u H locs hw hP hD hS => ?_)
    subst hw
    have hP : va_P D vwCl (wM ad cI cZ (sz, gd, by_, cd, tr, ver, op, sn, true, cf_cpy oz sz 0 0 6, cf_cpy og gd 0 0 6, cf_cpy ob by_ 0 0 96, cd)) H := hP
    have hD : va_D A (wM ad cI cZ (sz, gd, by_, cd, tr, ver, op, sn, true, cf_cpy oz sz 0 0 6, cf_cpy og gd 0 0 6, cf_cpy ob by_ 0 0 96, cd)) := hD
    refine lv_iconst (v := nI 0) hx hb dX1_commit_14 (by rfl) ?_
    refine lv_istore_n (lv' := [(1, .int (nI 0)), (0, .ref (ad 0))]) hx hb dX1_commit_15 rfl hl (by decide) rfl (fun ls hl => ?_)
    refine w_loop (pc := 16) (fun k H locs ls => ∃ i : Nat, i + k = 96 ∧ va_P D vwCl (wM ad cI cZ (sz, gd, cf_cpy by_ sn 0 0 i, cd, tr, ver, op, sn, true, cf_cpy oz sz 0 0 6, cf_cpy og gd 0 0 6, cf_cpy ob by_ 0 0 96, cd)) H ∧ va_D A (wM ad cI cZ (sz, gd, cf_cpy by_ sn 0 0 i, cd, tr, ver, op, sn, true, cf_cpy oz sz 0 0 6, cf_cpy og gd 0 0 6, cf_cpy ob by_ 0 0 96, cd)) ∧ va_S A s.heap H locs ∧ lv_has ls 2 [(0, .ref (ad 0)), (1, .int (nI i))]) (fun k ih H locs ls hI => ?_) 96 _ _ _ ⟨0, (by omega), (by rw [cf_cpy_0 by_]; exact hP), (by rw [cf_cpy_0 by_]; exact hD), hS, lv_sub hl [1, 0] rfl⟩
    obtain ⟨i, hik, hP, hD, hS, hl⟩ := hI
    refine lv_iload_n hx hb dX1_commit_16 rfl (lv_at hl 1 rfl) ?_
    refine lv_bipush (v := nI 96) hx hb dX1_commit_17 (by rfl) ?_
    refine lv_icmp_ge (tgt := 40) hx hb dX1_commit_19 (by decide) (fun c19 => ?_) (fun c19 => ?_)
    · have hin := nn_leE (by omega) (by omega) c19
      have h8 : i = 96 := by omega
      subst h8
      refine lv_aload_n hx hb dX1_commit_40 rfl (lv_at hl 0 rfl) ?_
      refine lv_iconst (v := cf_b false) hx hb dX1_commit_41 (by rfl) ?_
      refine va_put (D := D) (ci := 1) (v := .int (cf_b false)) (ty := .boolean) (C := RX1) (T := TX1) (N := 13) hx hb hts in_X1 tyX1 tyX1_ok nmX1 hown hK hP hD hS 0 rfl rfl 6 (by decide) (hts _ q144) (fun _ h9 => h9) rfl (by decide +kernel) (cf_b_fit _).1 (cf_b_fit _).2 (Nat.le_of_ble_eq_true rfl) dX1_commit_42 (fun H locs hP hD hS => ?_)
      have hP : va_P D vwCl (wM ad cI cZ (sz, gd, cf_cpy by_ sn 0 0 96, cd, tr, ver, false, sn, true, cf_cpy oz sz 0 0 6, cf_cpy og gd 0 0 6, cf_cpy ob by_ 0 0 96, cd)) H := hP
      have hD : va_D A (wM ad cI cZ (sz, gd, cf_cpy by_ sn 0 0 96, cd, tr, ver, false, sn, true, cf_cpy oz sz 0 0 6, cf_cpy og gd 0 0 6, cf_cpy ob by_ 0 0 96, cd)) := hD
      refine lv_iconst (v := 0) hx hb dX1_commit_45 (by decide) ?_
      exact w_iret (S := MDt) (w := wM ad cI cZ) (sz, gd, cf_cpy by_ sn 0 0 96, cd, tr, ver, false, sn, true, cf_cpy oz sz 0 0 6, cf_cpy og gd 0 0 6, cf_cpy ob by_ 0 0 96, cd) hx hb hr hloc hK hP hD hS dX1_commit_46 (by
              unfold md_commit
              rw [if_pos (show md_op (sz, gd, by_, cd, tr, ver, op, sn, ch, oz, og, ob, oc) = true from hop)]
              rfl)
    · have hin := nn_nleE (by omega) c19
      refine lv_aload_n hx hb dX1_commit_22 rfl (lv_at hl 0 rfl) ?_
      refine va_get (D := D) (ci := 1) (v := .ref (ad 3)) (C := RX1) (T := TX1) (N := 13) hx hb hts in_X1 hown hK hP 0 rfl rfl 2 (by decide) (hts _ q140) (fun _ h9 => h9) rfl dX1_commit_23 ?_
      refine lv_iload_n hx hb dX1_commit_26 rfl (lv_at hl 1 rfl) ?_
      refine lv_aload_n hx hb dX1_commit_27 rfl (lv_at hl 0 rfl) ?_
      refine va_get (D := D) (ci := 1) (v := .ref (ad 4)) (C := RX1) (T := TX1) (N := 13) hx hb hts in_X1 hown hK hP 0 rfl rfl 7 (by decide) (hts _ q145) (fun _ h9 => h9) rfl dX1_commit_28 ?_
      refine lv_iload_n hx hb dX1_commit_31 rfl (lv_at hl 1 rfl) ?_
      refine na_iald (f := sn) hx hb hK hP 4 0 rfl rfl (j := i) (by omega) (by decide) dX1_commit_32 ?_
      refine na_iast (f := cf_cpy by_ sn 0 0 i) (g := cf_cpy by_ sn 0 0 (i + 1)) (x := (sn i)) hx hb hK hP hD hS 3 0 rfl rfl (j := i) (by omega) (by decide) (cf_cpy_s (by omega) (by rw [Nat.zero_add])) dX1_commit_33 (fun H locs hP hD hS => ?_)
      have hP : va_P D vwCl (wM ad cI cZ (sz, gd, cf_cpy by_ sn 0 0 (i + 1), cd, tr, ver, op, sn, true, cf_cpy oz sz 0 0 6, cf_cpy og gd 0 0 6, cf_cpy ob by_ 0 0 96, cd)) H := hP
      have hD : va_D A (wM ad cI cZ (sz, gd, cf_cpy by_ sn 0 0 (i + 1), cd, tr, ver, op, sn, true, cf_cpy oz sz 0 0 6, cf_cpy og gd 0 0 6, cf_cpy ob by_ 0 0 96, cd)) := hD
      refine lv_iinc (v := nI (i + 1)) (lv' := [(1, .int (nI (i + 1))), (0, .ref (ad 0))]) hx hb dX1_commit_34 hl (k := 1) rfl (nI_add _ 1) (by decide) rfl (fun ls hl => ?_)
      refine lv_goto (tgt := 16) hx hb dX1_commit_37 (by decide) ?_
      exact ih (k - 1) (by omega) _ _ _ ⟨i + 1, by omega, hP, hD, hS, lv_sub hl [1, 0] rfl⟩
  · have hop := cf_b_0 c4
    refine lv_bipush (v := (-2)) hx hb dX1_commit_7 (by decide) ?_
    exact w_iret (S := MDt) (w := wM ad cI cZ) (sz, gd, by_, cd, tr, ver, op, sn, ch, oz, og, ob, oc) hx hb hr hloc hK hP hD hS dX1_commit_9 (by
          unfold md_commit
          rw [if_neg (by show ¬ op = true; rw [hop]; decide)])
set_option maxHeartbeats 4000000 in
set_option maxRecDepth 100000 in
/-- abort() -/
theorem mX1_abort (l : Launch) (D : va_G) (ad : Nat → Nat) (cI cZ : ClassId) (v : MDt) : MCi l yX1_abort cX1_abort 1 ({ frames := 0, cells := 0, slots := 0, locals := 0 }) D (tyW cI cZ) [.ref (ad 0)] (wM ad cI cZ v) (fun r v1 => (r, v1) = md_abort v) (wM ad cI cZ) := by
  obtain ⟨sz, gd, by_, cd, tr, ver, op, sn, ch, oz, og, ob, oc⟩ := v
  unfold MCi
  refine mc_start (Qk := fun A => va_Qi _ (fun u t => bW D (tyW cI cZ) A (wM ad cI cZ u) t) A) (by decide) (Nat.le_of_ble_eq_true rfl) ?_
  intro p e s m below meth c A hx hb hr hml hown hts hloc hnm hK hP hD hA hS ls hl
  have hown : s.vm.findClass RX1 = some m.cls := hown
  have hl : lv_has ls 1 [(0, .ref (ad 0))] := hl
  refine lv_aload_n hx hb dX1_abort_0 rfl (lv_at hl 0 rfl) ?_
  refine va_get (D := D) (ci := 1) (v := .int (cf_b op)) (C := RX1) (T := TX1) (N := 13) hx hb hts in_X1 hown hK hP 0 rfl rfl 6 (by decide) (hts _ q144) (fun _ h9 => h9) rfl dX1_abort_1 ?_
  refine lv_if_ne (tgt := 10) hx hb dX1_abort_4 (by decide) (fun c4 => ?_) (fun c4 => ?_)
  · have hop := cf_b_1 c4
    refine lv_aload_n hx hb dX1_abort_10 rfl (lv_at hl 0 rfl) ?_
    refine lv_iconst (v := cf_b false) hx hb dX1_abort_11 (by rfl) ?_
    refine va_put (D := D) (ci := 1) (v := .int (cf_b false)) (ty := .boolean) (C := RX1) (T := TX1) (N := 13) hx hb hts in_X1 tyX1 tyX1_ok nmX1 hown hK hP hD hS 0 rfl rfl 6 (by decide) (hts _ q144) (fun _ h9 => h9) rfl (by decide +kernel) (cf_b_fit _).1 (cf_b_fit _).2 (Nat.le_of_ble_eq_true rfl) dX1_abort_12 (fun H locs hP hD hS => ?_)
    have hP : va_P D vwCl (wM ad cI cZ (sz, gd, by_, cd, tr, ver, false, sn, ch, oz, og, ob, oc)) H := hP
    have hD : va_D A (wM ad cI cZ (sz, gd, by_, cd, tr, ver, false, sn, ch, oz, og, ob, oc)) := hD
    refine lv_iconst (v := 0) hx hb dX1_abort_15 (by decide) ?_
    exact w_iret (S := MDt) (w := wM ad cI cZ) (sz, gd, by_, cd, tr, ver, false, sn, ch, oz, og, ob, oc) hx hb hr hloc hK hP hD hS dX1_abort_16 (by
          unfold md_abort
          rw [if_pos (show md_op (sz, gd, by_, cd, tr, ver, op, sn, ch, oz, og, ob, oc) = true from hop)]
          rfl)
  · have hop := cf_b_0 c4
    refine lv_bipush (v := (-2)) hx hb dX1_abort_7 (by decide) ?_
    exact w_iret (S := MDt) (w := wM ad cI cZ) (sz, gd, by_, cd, tr, ver, op, sn, ch, oz, og, ob, oc) hx hb hr hloc hK hP hD hS dX1_abort_9 (by
          unfold md_abort
          rw [if_neg (by show ¬ op = true; rw [hop]; decide)])
set_option maxHeartbeats 4000000 in
set_option maxRecDepth 100000 in
/-- verify(code) -/
theorem mX1_verify (l : Launch) (D : va_G) (ad : Nat → Nat) (cI cZ : ClassId) (v : MDt) (cc0 : Int32) : MCi l yX1_verify cX1_verify 2 ({ frames := 0, cells := 0, slots := 0, locals := 0 }) D (tyW cI cZ) [.ref (ad 0), .int cc0] (wM ad cI cZ v) (fun r v1 => (r, v1) = md_verify v cc0) (wM ad cI cZ) := by
  obtain ⟨sz, gd, by_, cd, tr, ver, op, sn, ch, oz, og, ob, oc⟩ := v
  unfold MCi
  refine mc_start (Qk := fun A => va_Qi _ (fun u t => bW D (tyW cI cZ) A (wM ad cI cZ u) t) A) (by decide) (Nat.le_of_ble_eq_true rfl) ?_
  intro p e s m below meth c A hx hb hr hml hown hts hloc hnm hK hP hD hA hS ls hl
  have hown : s.vm.findClass RX1 = some m.cls := hown
  have hl : lv_has ls 2 [(0, .ref (ad 0)), (1, .int cc0)] := hl
  refine lv_aload_n hx hb dX1_verify_0 rfl (lv_at hl 0 rfl) ?_
  refine va_get (D := D) (ci := 1) (v := .int tr) (C := RX1) (T := TX1) (N := 13) hx hb hts in_X1 hown hK hP 0 rfl rfl 4 (by decide) (hts _ q142) (fun _ h9 => h9) rfl dX1_verify_1 ?_
  refine lv_if_ne (tgt := 10) hx hb dX1_verify_4 (by decide) (fun c4 => ?_) (fun c4 => ?_)
  · refine lv_aload_n hx hb dX1_verify_10 rfl (lv_at hl 0 rfl) ?_
    refine lv_iload_n hx hb dX1_verify_11 rfl (lv_at hl 1 rfl) ?_
    refine lv_aload_n hx hb dX1_verify_12 rfl (lv_at hl 0 rfl) ?_
    refine va_get (D := D) (ci := 1) (v := .int cd) (C := RX1) (T := TX1) (N := 13) hx hb hts in_X1 hown hK hP 0 rfl rfl 3 (by decide) (hts _ q141) (fun _ h9 => h9) rfl dX1_verify_13 ?_
    refine lv_icmp_ne (tgt := 23) hx hb dX1_verify_16 (by decide) (fun c16 => ?_) (fun c16 => ?_)
    · refine lv_iconst (v := cf_b false) hx hb dX1_verify_23 (by rfl) ?_
      refine va_put (D := D) (ci := 1) (v := .int (cf_b false)) (ty := .boolean) (C := RX1) (T := TX1) (N := 13) hx hb hts in_X1 tyX1 tyX1_ok nmX1 hown hK hP hD hS 0 rfl rfl 5 (by decide) (hts _ q143) (fun _ h9 => h9) rfl (by decide +kernel) (cf_b_fit _).1 (cf_b_fit _).2 (Nat.le_of_ble_eq_true rfl) dX1_verify_24 (fun H locs hP hD hS => ?_)
      have hP : va_P D vwCl (wM ad cI cZ (sz, gd, by_, cd, tr, false, op, sn, ch, oz, og, ob, oc)) H := hP
      have hD : va_D A (wM ad cI cZ (sz, gd, by_, cd, tr, false, op, sn, ch, oz, og, ob, oc)) := hD
      refine lv_aload_n hx hb dX1_verify_27 rfl (lv_at hl 0 rfl) ?_
      refine lv_aload_n hx hb dX1_verify_28 rfl (lv_at hl 0 rfl) ?_
      refine va_get (D := D) (ci := 1) (v := .int (cf_b false)) (C := RX1) (T := TX1) (N := 13) hx hb hts in_X1 hown hK hP 0 rfl rfl 5 (by decide) (hts _ q143) (fun _ h9 => h9) rfl dX1_verify_29 ?_
      refine lv_if_eq (tgt := 39) hx hb dX1_verify_32 (by decide) (fun c32 => ?_) (fun c32 => ?_)
      · refine lv_aload_n hx hb dX1_verify_39 rfl (lv_at hl 0 rfl) ?_
        refine va_get (D := D) (ci := 1) (v := .int tr) (C := RX1) (T := TX1) (N := 13) hx hb hts in_X1 hown hK hP 0 rfl rfl 4 (by decide) (hts _ q142) (fun _ h9 => h9) rfl dX1_verify_40 ?_
        refine lv_iconst (v := 1) hx hb dX1_verify_43 (by decide) ?_
        refine lv_isub hx hb dX1_verify_44 ?_
        refine va_put (D := D) (ci := 1) (v := .int (tr - 1)) (ty := .int) (C := RX1) (T := TX1) (N := 13) hx hb hts in_X1 tyX1 tyX1_ok nmX1 hown hK hP hD hS 0 rfl rfl 4 (by decide) (hts _ q142) (fun _ h9 => h9) rfl (by decide +kernel) rfl rfl (Nat.le_of_ble_eq_true rfl) dX1_verify_45 (fun H locs hP hD hS => ?_)
        have hP : va_P D vwCl (wM ad cI cZ (sz, gd, by_, cd, (tr - 1), false, op, sn, ch, oz, og, ob, oc)) H := hP
        have hD : va_D A (wM ad cI cZ (sz, gd, by_, cd, (tr - 1), false, op, sn, ch, oz, og, ob, oc)) := hD
        refine lv_aload_n hx hb dX1_verify_48 rfl (lv_at hl 0 rfl) ?_
        refine va_get (D := D) (ci := 1) (v := .int (tr - 1)) (C := RX1) (T := TX1) (N := 13) hx hb hts in_X1 hown hK hP 0 rfl rfl 4 (by decide) (hts _ q142) (fun _ h9 => h9) rfl dX1_verify_49 ?_
        exact w_iret (S := MDt) (w := wM ad cI cZ) (sz, gd, by_, cd, (tr - 1), false, op, sn, ch, oz, og, ob, oc) hx hb hr hloc hK hP hD hS dX1_verify_52 (by
                  unfold md_verify
                  rw [if_neg (show ¬ md_tr (sz, gd, by_, cd, tr, ver, op, sn, ch, oz, og, ob, oc) = 0 from c4), if_neg (show ¬ cc0 = md_cd (sz, gd, by_, cd, tr, ver, op, sn, ch, oz, og, ob, oc) from c16)]
                  rfl)
      · exact absurd rfl c32
    · refine lv_iconst (v := cf_b true) hx hb dX1_verify_19 (by rfl) ?_
      refine lv_goto (tgt := 24) hx hb dX1_verify_20 (by decide) ?_
      refine va_put (D := D) (ci := 1) (v := .int (cf_b true)) (ty := .boolean) (C := RX1) (T := TX1) (N := 13) hx hb hts in_X1 tyX1 tyX1_ok nmX1 hown hK hP hD hS 0 rfl rfl 5 (by decide) (hts _ q143) (fun _ h9 => h9) rfl (by decide +kernel) (cf_b_fit _).1 (cf_b_fit _).2 (Nat.le_of_ble_eq_true rfl) dX1_verify_24 (fun H locs hP hD hS => ?_)
      have hP : va_P D vwCl (wM ad cI cZ (sz, gd, by_, cd, tr, true, op, sn, ch, oz, og, ob, oc)) H := hP
      have hD : va_D A (wM ad cI cZ (sz, gd, by_, cd, tr, true, op, sn, ch, oz, og, ob, oc)) := hD
      refine lv_aload_n hx hb dX1_verify_27 rfl (lv_at hl 0 rfl) ?_
      refine lv_aload_n hx hb dX1_verify_28 rfl (lv_at hl 0 rfl) ?_
      refine va_get (D := D) (ci := 1) (v := .int (cf_b true)) (C := RX1) (T := TX1) (N := 13) hx hb hts in_X1 hown hK hP 0 rfl rfl 5 (by decide) (hts _ q143) (fun _ h9 => h9) rfl dX1_verify_29 ?_
      refine lv_if_eq (tgt := 39) hx hb dX1_verify_32 (by decide) (fun c32 => ?_) (fun c32 => ?_)
      · exact absurd c32 (by decide)
      · refine lv_iconst (v := 3) hx hb dX1_verify_35 (by decide) ?_
        refine lv_goto (tgt := 45) hx hb dX1_verify_36 (by decide) ?_
        refine va_put (D := D) (ci := 1) (v := .int 3) (ty := .int) (C := RX1) (T := TX1) (N := 13) hx hb hts in_X1 tyX1 tyX1_ok nmX1 hown hK hP hD hS 0 rfl rfl 4 (by decide) (hts _ q142) (fun _ h9 => h9) rfl (by decide +kernel) rfl rfl (Nat.le_of_ble_eq_true rfl) dX1_verify_45 (fun H locs hP hD hS => ?_)
        have hP : va_P D vwCl (wM ad cI cZ (sz, gd, by_, cd, 3, true, op, sn, ch, oz, og, ob, oc)) H := hP
        have hD : va_D A (wM ad cI cZ (sz, gd, by_, cd, 3, true, op, sn, ch, oz, og, ob, oc)) := hD
        refine lv_aload_n hx hb dX1_verify_48 rfl (lv_at hl 0 rfl) ?_
        refine va_get (D := D) (ci := 1) (v := .int 3) (C := RX1) (T := TX1) (N := 13) hx hb hts in_X1 hown hK hP 0 rfl rfl 4 (by decide) (hts _ q142) (fun _ h9 => h9) rfl dX1_verify_49 ?_
        exact w_iret (S := MDt) (w := wM ad cI cZ) (sz, gd, by_, cd, 3, true, op, sn, ch, oz, og, ob, oc) hx hb hr hloc hK hP hD hS dX1_verify_52 (by
                  unfold md_verify
                  rw [if_neg (show ¬ md_tr (sz, gd, by_, cd, tr, ver, op, sn, ch, oz, og, ob, oc) = 0 from c4), if_pos (show cc0 = md_cd (sz, gd, by_, cd, tr, ver, op, sn, ch, oz, og, ob, oc) from c16)]
                  rfl)
  · refine lv_bipush (v := (-4)) hx hb dX1_verify_7 (by decide) ?_
    exact w_iret (S := MDt) (w := wM ad cI cZ) (sz, gd, by_, cd, tr, ver, op, sn, ch, oz, og, ob, oc) hx hb hr hloc hK hP hD hS dX1_verify_9 (by
          unfold md_verify
          rw [if_pos (show md_tr (sz, gd, by_, cd, tr, ver, op, sn, ch, oz, og, ob, oc) = 0 from c4)])
set_option maxHeartbeats 4000000 in
set_option maxRecDepth 100000 in
/-- change(newCode) -/
theorem mX1_change (l : Launch) (D : va_G) (ad : Nat → Nat) (cI cZ : ClassId) (v : MDt) (cc0 : Int32) : MCi l yX1_change cX1_change 2 ({ frames := 1, cells := 0, slots := 0, locals := 21 }) D (tyW cI cZ) [.ref (ad 0), .int cc0] (wM ad cI cZ v) (fun r v1 => (r, v1) = md_change v cc0) (wM ad cI cZ) := by
  obtain ⟨sz, gd, by_, cd, tr, ver, op, sn, ch, oz, og, ob, oc⟩ := v
  unfold MCi
  refine mc_start (Qk := fun A => va_Qi _ (fun u t => bW D (tyW cI cZ) A (wM ad cI cZ u) t) A) (by decide) (Nat.le_of_ble_eq_true rfl) ?_
  intro p e s m below meth c A hx hb hr hml hown hts hloc hnm hK hP hD hA hS ls hl
  have hown : s.vm.findClass RX1 = some m.cls := hown
  have hl : lv_has ls 2 [(0, .ref (ad 0)), (1, .int cc0)] := hl
  refine lv_iload_n hx hb dX1_change_0 rfl (lv_at hl 1 rfl) ?_
  refine lv_if_lt (tgt := 11) hx hb dX1_change_1 (by decide) (fun c1 => ?_) (fun c1 => ?_)
  · refine lv_iconst (v := (-1)) hx hb dX1_change_11 (by decide) ?_
    exact w_iret (S := MDt) (w := wM ad cI cZ) (sz, gd, by_, cd, tr, ver, op, sn, ch, oz, og, ob, oc) hx hb hr hloc hK hP hD hS dX1_change_12 (if_pos (Or.inl c1)).symm
  · refine lv_iload_n hx hb dX1_change_4 rfl (lv_at hl 1 rfl) ?_
    refine lv_sipush (v := 9999) hx hb dX1_change_5 (by decide) ?_
    refine lv_icmp_le (tgt := 13) hx hb dX1_change_8 (by decide) (fun c8 => ?_) (fun c8 => ?_)
    · have hbad : ¬ (cc0 < 0 ∨ 9999 < cc0) := by
        rintro (q | q)
        · exact c1 q
        · exact Int32.not_lt.mpr c8 q
      refine lv_aload_n hx hb dX1_change_13 rfl (lv_at hl 0 rfl) ?_
      refine va_get (D := D) (ci := 1) (v := .int (cf_b ver)) (C := RX1) (T := TX1) (N := 13) hx hb hts in_X1 hown hK hP 0 rfl rfl 5 (by decide) (hts _ q143) (fun _ h9 => h9) rfl dX1_change_14 ?_
      refine lv_if_ne (tgt := 23) hx hb dX1_change_17 (by decide) (fun c17 => ?_) (fun c17 => ?_)
      · have hver := cf_b_1 c17
        refine lv_aload_n hx hb dX1_change_23 rfl (lv_at hl 0 rfl) ?_
        refine va_get (D := D) (ci := 1) (v := .int (cf_b op)) (C := RX1) (T := TX1) (N := 13) hx hb hts in_X1 hown hK hP 0 rfl rfl 6 (by decide) (hts _ q144) (fun _ h9 => h9) rfl dX1_change_24 ?_
        refine lv_if_eq (tgt := 33) hx hb dX1_change_27 (by decide) (fun c27 => ?_) (fun c27 => ?_)
        · have hop := cf_b_0 c27
          refine lv_aload_n hx hb dX1_change_33 rfl (lv_at hl 0 rfl) ?_
          refine w_callv (wr := []) (mX1_keep l D ad cI cZ (sz, gd, by_, cd, tr, ver, op, sn, ch, oz, og, ob, oc)) [0, 1, 2, 3, 4, 5, 6, 7] [] 0 ⟨hx, hb, hml, hown, hts⟩ (cwV 0 hts (lw_V q182 q184 qs8 q12 q185) rfl rfl rfl (by decide +kernel) ⟨Nat.le_of_ble_eq_true rfl, Nat.le_of_ble_eq_true rfl⟩) hP hD hK hS hA rfl rfl rfl rfl (by decide) rfl rfl rfl hl.1 rfl (Nat.le_of_ble_eq_true rfl) dX1_change_34 ⟨Nat.zero_le _, Nat.zero_le _⟩ (fun u H locs hw hP hD hS => ?_)
          subst hw
          have hP : va_P D vwCl (wM ad cI cZ (sz, gd, by_, cd, tr, ver, op, sn, true, cf_cpy oz sz 0 0 6, cf_cpy og gd 0 0 6, cf_cpy ob by_ 0 0 96, cd)) H := hP
          have hD : va_D A (wM ad cI cZ (sz, gd, by_, cd, tr, ver, op, sn, true, cf_cpy oz sz 0 0 6, cf_cpy og gd 0 0 6, cf_cpy ob by_ 0 0 96, cd)) := hD
          refine lv_aload_n hx hb dX1_change_37 rfl (lv_at hl 0 rfl) ?_
          refine lv_iload_n hx hb dX1_change_38 rfl (lv_at hl 1 rfl) ?_
          refine va_put (D := D) (ci := 1) (v := .int cc0) (ty := .int) (C := RX1) (T := TX1) (N := 13) hx hb hts in_X1 tyX1 tyX1_ok nmX1 hown hK hP hD hS 0 rfl rfl 3 (by decide) (hts _ q141) (fun _ h9 => h9) rfl (by decide +kernel) rfl rfl (Nat.le_of_ble_eq_true rfl) dX1_change_39 (fun H locs hP hD hS => ?_)
          have hP : va_P D vwCl (wM ad cI cZ (sz, gd, by_, cc0, tr, ver, op, sn, true, cf_cpy oz sz 0 0 6, cf_cpy og gd 0 0 6, cf_cpy ob by_ 0 0 96, cd)) H := hP
          have hD : va_D A (wM ad cI cZ (sz, gd, by_, cc0, tr, ver, op, sn, true, cf_cpy oz sz 0 0 6, cf_cpy og gd 0 0 6, cf_cpy ob by_ 0 0 96, cd)) := hD
          refine lv_iconst (v := 0) hx hb dX1_change_42 (by decide) ?_
          exact w_iret (S := MDt) (w := wM ad cI cZ) (sz, gd, by_, cc0, tr, ver, op, sn, true, cf_cpy oz sz 0 0 6, cf_cpy og gd 0 0 6, cf_cpy ob by_ 0 0 96, cd) hx hb hr hloc hK hP hD hS dX1_change_43 (by
                      unfold md_change
                      rw [if_neg hbad, if_pos (show md_ver (sz, gd, by_, cd, tr, ver, op, sn, ch, oz, og, ob, oc) = true from hver), if_neg (by show ¬ op = true; rw [hop]; decide)]
                      rfl)
        · have hop := cf_b_1 c27
          refine lv_bipush (v := (-2)) hx hb dX1_change_30 (by decide) ?_
          exact w_iret (S := MDt) (w := wM ad cI cZ) (sz, gd, by_, cd, tr, ver, op, sn, ch, oz, og, ob, oc) hx hb hr hloc hK hP hD hS dX1_change_32 (by
                      unfold md_change
                      rw [if_neg hbad, if_pos (show md_ver (sz, gd, by_, cd, tr, ver, op, sn, ch, oz, og, ob, oc) = true from hver), if_pos (show md_op (sz, gd, by_, cd, tr, ver, op, sn, ch, oz, og, ob, oc) = true from hop)])
      · have hver := cf_b_0 c17
        refine lv_bipush (v := (-3)) hx hb dX1_change_20 (by decide) ?_
        exact w_iret (S := MDt) (w := wM ad cI cZ) (sz, gd, by_, cd, tr, ver, op, sn, ch, oz, og, ob, oc) hx hb hr hloc hK hP hD hS dX1_change_22 (by
                  unfold md_change
                  rw [if_neg hbad, if_neg (by show ¬ ver = true; rw [hver]; decide)])
    · refine lv_iconst (v := (-1)) hx hb dX1_change_11 (by decide) ?_
      exact w_iret (S := MDt) (w := wM ad cI cZ) (sz, gd, by_, cd, tr, ver, op, sn, ch, oz, og, ob, oc) hx hb hr hloc hK hP hD hS dX1_change_12 (if_pos (Or.inr (Int32.not_le.mp c8))).symm
set_option maxHeartbeats 4000000 in
set_option maxRecDepth 100000 in
/-- power() -/
theorem mX1_power (l : Launch) (D : va_G) (ad : Nat → Nat) (cI cZ : ClassId) (v : MDt) : MCv l yX1_power cX1_power 1 ({ frames := 0, cells := 0, slots := 0, locals := 0 }) D (tyW cI cZ) [.ref (ad 0)] (wM ad cI cZ v) (fun v1 => v1 = md_power v) (wM ad cI cZ) := by
  obtain ⟨sz, gd, by_, cd, tr, ver, op, sn, ch, oz, og, ob, oc⟩ := v
  unfold MCv
  refine mc_start (Qk := fun A => va_Qv _ (fun u t => bW D (tyW cI cZ) A (wM ad cI cZ u) t) A) (by decide) (Nat.le_of_ble_eq_true rfl) ?_
  intro p e s m below meth c A hx hb hr hml hown hts hloc hnm hK hP hD hA hS ls hl
  have hown : s.vm.findClass RX1 = some m.cls := hown
  have hl : lv_has ls 1 [(0, .ref (ad 0))] := hl
  refine lv_aload_n hx hb dX1_power_0 rfl (lv_at hl 0 rfl) ?_
  refine lv_iconst (v := cf_b false) hx hb dX1_power_1 (by rfl) ?_
  refine va_put (D := D) (ci := 1) (v := .int (cf_b false)) (ty := .boolean) (C := RX1) (T := TX1) (N := 13) hx hb hts in_X1 tyX1 tyX1_ok nmX1 hown hK hP hD hS 0 rfl rfl 6 (by decide) (hts _ q144) (fun _ h9 => h9) rfl (by decide +kernel) (cf_b_fit _).1 (cf_b_fit _).2 (Nat.le_of_ble_eq_true rfl) dX1_power_2 (fun H locs hP hD hS => ?_)
  have hP : va_P D vwCl (wM ad cI cZ (sz, gd, by_, cd, tr, ver, false, sn, ch, oz, og, ob, oc)) H := hP
  have hD : va_D A (wM ad cI cZ (sz, gd, by_, cd, tr, ver, false, sn, ch, oz, og, ob, oc)) := hD
  refine lv_aload_n hx hb dX1_power_5 rfl (lv_at hl 0 rfl) ?_
  refine lv_iconst (v := cf_b false) hx hb dX1_power_6 (by rfl) ?_
  refine va_put (D := D) (ci := 1) (v := .int (cf_b false)) (ty := .boolean) (C := RX1) (T := TX1) (N := 13) hx hb hts in_X1 tyX1 tyX1_ok nmX1 hown hK hP hD hS 0 rfl rfl 5 (by decide) (hts _ q143) (fun _ h9 => h9) rfl (by decide +kernel) (cf_b_fit _).1 (cf_b_fit _).2 (Nat.le_of_ble_eq_true rfl) dX1_power_7 (fun H locs hP hD hS => ?_)
  have hP : va_P D vwCl (wM ad cI cZ (sz, gd, by_, cd, tr, false, false, sn, ch, oz, og, ob, oc)) H := hP
  have hD : va_D A (wM ad cI cZ (sz, gd, by_, cd, tr, false, false, sn, ch, oz, og, ob, oc)) := hD
  refine lv_aload_n hx hb dX1_power_10 rfl (lv_at hl 0 rfl) ?_
  refine lv_iconst (v := cf_b false) hx hb dX1_power_11 (by rfl) ?_
  refine va_put (D := D) (ci := 1) (v := .int (cf_b false)) (ty := .boolean) (C := RX1) (T := TX1) (N := 13) hx hb hts in_X1 tyX1 tyX1_ok nmX1 hown hK hP hD hS 0 rfl rfl 8 (by decide) (hts _ q146) (fun _ h9 => h9) rfl (by decide +kernel) (cf_b_fit _).1 (cf_b_fit _).2 (Nat.le_of_ble_eq_true rfl) dX1_power_12 (fun H locs hP hD hS => ?_)
  have hP : va_P D vwCl (wM ad cI cZ (sz, gd, by_, cd, tr, false, false, sn, false, oz, og, ob, oc)) H := hP
  have hD : va_D A (wM ad cI cZ (sz, gd, by_, cd, tr, false, false, sn, false, oz, og, ob, oc)) := hD
  exact w_vret (S := MDt) (w := wM ad cI cZ) (sz, gd, by_, cd, tr, false, false, sn, false, oz, og, ob, oc) hx hb hr hloc hK hP hD hS dX1_power_15 rfl
set_option maxHeartbeats 4000000 in
set_option maxRecDepth 100000 in
/-- torn(marked, pages) -/
theorem mX1_torn (l : Launch) (D : va_G) (ad : Nat → Nat) (cI cZ : ClassId) (v : MDt) (mk : Bool) (pgs : Int32) : MCv l yX1_torn cX1_torn 4 ({ frames := 1, cells := 0, slots := 0, locals := 20 }) D (tyW cI cZ) [.ref (ad 0), .int (cf_b mk), .int pgs] (wM ad cI cZ v) (fun v1 => v1 = md_torn v mk) (wM ad cI cZ) := by
  obtain ⟨sz, gd, by_, cd, tr, ver, op, sn, ch, oz, og, ob, oc⟩ := v
  unfold MCv
  refine mc_start (Qk := fun A => va_Qv _ (fun u t => bW D (tyW cI cZ) A (wM ad cI cZ u) t) A) (by decide) (Nat.le_of_ble_eq_true rfl) ?_
  intro p e s m below meth c A hx hb hr hml hown hts hloc hnm hK hP hD hA hS ls hl
  have hown : s.vm.findClass RX1 = some m.cls := hown
  have hl : lv_has ls 4 [(0, .ref (ad 0)), (1, .int (cf_b mk)), (2, .int pgs)] := hl
  refine lv_aload_n hx hb dX1_torn_0 rfl (lv_at hl 0 rfl) ?_
  refine va_get (D := D) (ci := 1) (v := .int (cf_b ch)) (C := RX1) (T := TX1) (N := 13) hx hb hts in_X1 hown hK hP 0 rfl rfl 8 (by decide) (hts _ q146) (fun _ h9 => h9) rfl dX1_torn_1 ?_
  refine lv_if_eq (tgt := 83) hx hb dX1_torn_4 (by decide) (fun c4 => ?_) (fun c4 => ?_)
  · have hch := cf_b_0 c4
    refine lv_aload_n hx hb dX1_torn_83 rfl (lv_at hl 0 rfl) ?_
    refine w_callv (wr := []) (mX1_power l D ad cI cZ (sz, gd, by_, cd, tr, ver, op, sn, ch, oz, og, ob, oc)) [0, 1, 2, 3, 4, 5, 6, 7] [] 0 ⟨hx, hb, hml, hown, hts⟩ (cwV 0 hts (lw_V q226 q219 q220 q12 q221) rfl rfl rfl (by decide +kernel) ⟨Nat.le_of_ble_eq_true rfl, Nat.le_of_ble_eq_true rfl⟩) hP hD hK hS hA rfl rfl rfl rfl (by decide) rfl rfl rfl hl.1 rfl (Nat.le_of_ble_eq_true rfl) dX1_torn_84 ⟨Nat.zero_le _, Nat.zero_le _⟩ (fun u H locs hw hP hD hS => ?_)
    subst hw
    have hP : va_P D vwCl (wM ad cI cZ (sz, gd, by_, cd, tr, false, false, sn, false, oz, og, ob, oc)) H := hP
    have hD : va_D A (wM ad cI cZ (sz, gd, by_, cd, tr, false, false, sn, false, oz, og, ob, oc)) := hD
    exact w_vret (S := MDt) (w := wM ad cI cZ) (sz, gd, by_, cd, tr, false, false, sn, false, oz, og, ob, oc) hx hb hr hloc hK hP hD hS dX1_torn_87 (by
          unfold md_torn
          rw [if_neg (by show ¬ ch = true; rw [hch]; decide)]
          rfl)
  · have hch := cf_b_1 c4
    refine lv_iload_n hx hb dX1_torn_7 rfl (lv_at hl 1 rfl) ?_
    refine lv_if_ne (tgt := 83) hx hb dX1_torn_8 (by decide) (fun c8 => ?_) (fun c8 => ?_)
    · have hmk := cf_b_1 c8
      refine lv_aload_n hx hb dX1_torn_83 rfl (lv_at hl 0 rfl) ?_
      refine w_callv (wr := []) (mX1_power l D ad cI cZ (sz, gd, by_, cd, tr, ver, op, sn, ch, oz, og, ob, oc)) [0, 1, 2, 3, 4, 5, 6, 7] [] 0 ⟨hx, hb, hml, hown, hts⟩ (cwV 0 hts (lw_V q226 q219 q220 q12 q221) rfl rfl rfl (by decide +kernel) ⟨Nat.le_of_ble_eq_true rfl, Nat.le_of_ble_eq_true rfl⟩) hP hD hK hS hA rfl rfl rfl rfl (by decide) rfl rfl rfl hl.1 rfl (Nat.le_of_ble_eq_true rfl) dX1_torn_84 ⟨Nat.zero_le _, Nat.zero_le _⟩ (fun u H locs hw hP hD hS => ?_)
      subst hw
      have hP : va_P D vwCl (wM ad cI cZ (sz, gd, by_, cd, tr, false, false, sn, false, oz, og, ob, oc)) H := hP
      have hD : va_D A (wM ad cI cZ (sz, gd, by_, cd, tr, false, false, sn, false, oz, og, ob, oc)) := hD
      exact w_vret (S := MDt) (w := wM ad cI cZ) (sz, gd, by_, cd, tr, false, false, sn, false, oz, og, ob, oc) hx hb hr hloc hK hP hD hS dX1_torn_87 (by
              unfold md_torn
              rw [if_pos (show md_ch (sz, gd, by_, cd, tr, ver, op, sn, ch, oz, og, ob, oc) = true from hch), if_pos hmk]
              rfl)
    · have hmk := cf_b_0 c8
      refine lv_iconst (v := nI 0) hx hb dX1_torn_11 (by rfl) ?_
      refine lv_istore_n (lv' := [(3, .int (nI 0)), (0, .ref (ad 0)), (1, .int (cf_b mk)), (2, .int pgs)]) hx hb dX1_torn_12 rfl hl (by decide) rfl (fun ls hl => ?_)
      refine w_loop (pc := 13) (fun k H locs ls => ∃ i : Nat, i + k = 6 ∧ va_P D vwCl (wM ad cI cZ (cf_cpy sz oz 0 0 i, cf_cpy gd og 0 0 i, by_, cd, tr, ver, op, sn, ch, oz, og, ob, oc)) H ∧ va_D A (wM ad cI cZ (cf_cpy sz oz 0 0 i, cf_cpy gd og 0 0 i, by_, cd, tr, ver, op, sn, ch, oz, og, ob, oc)) ∧ va_S A s.heap H locs ∧ lv_has ls 4 [(0, .ref (ad 0)), (1, .int (cf_b mk)), (2, .int pgs), (3, .int (nI i))]) (fun k ih H locs ls hI => ?_) 6 _ _ _ ⟨0, (by omega), (by rw [cf_cpy_0, cf_cpy_0]; exact hP), (by rw [cf_cpy_0, cf_cpy_0]; exact hD), hS, lv_sub hl [1, 2, 3, 0] rfl⟩
      obtain ⟨i, hik, hP, hD, hS, hl⟩ := hI
      refine lv_iload_n hx hb dX1_torn_13 rfl (lv_at hl 3 rfl) ?_
      refine lv_bipush (v := nI 6) hx hb dX1_torn_14 (by rfl) ?_
      refine lv_icmp_ge (tgt := 49) hx hb dX1_torn_16 (by decide) (fun c16 => ?_) (fun c16 => ?_)
      · have hin := nn_leE (by omega) (by omega) c16
        have h8 : i = 6 := by omega
        subst h8
        refine lv_iconst (v := nI 0) hx hb dX1_torn_49 (by rfl) ?_
        refine lv_istore_n (lv' := [(3, .int (nI 0)), (0, .ref (ad 0)), (1, .int (cf_b mk)), (2, .int pgs)]) hx hb dX1_torn_50 rfl hl (by decide) rfl (fun ls hl => ?_)
        refine w_loop (pc := 51) (fun k2 H locs ls => ∃ j : Nat, j + k2 = 96 ∧ va_P D vwCl (wM ad cI cZ (cf_cpy sz oz 0 0 6, cf_cpy gd og 0 0 6, cf_cpy by_ ob 0 0 j, cd, tr, ver, op, sn, ch, oz, og, ob, oc)) H ∧ va_D A (wM ad cI cZ (cf_cpy sz oz 0 0 6, cf_cpy gd og 0 0 6, cf_cpy by_ ob 0 0 j, cd, tr, ver, op, sn, ch, oz, og, ob, oc)) ∧ va_S A s.heap H locs ∧ lv_has ls 4 [(0, .ref (ad 0)), (1, .int (cf_b mk)), (2, .int pgs), (3, .int (nI j))]) (fun k2 ih2 H locs ls hI => ?_) 96 _ _ _ ⟨0, (by omega), (by rw [cf_cpy_0 by_]; exact hP), (by rw [cf_cpy_0 by_]; exact hD), hS, lv_sub hl [1, 2, 3, 0] rfl⟩
        obtain ⟨j, hjk, hP, hD, hS, hl⟩ := hI
        refine lv_iload_n hx hb dX1_torn_51 rfl (lv_at hl 3 rfl) ?_
        refine lv_bipush (v := nI 96) hx hb dX1_torn_52 (by rfl) ?_
        refine lv_icmp_ge (tgt := 75) hx hb dX1_torn_54 (by decide) (fun c54 => ?_) (fun c54 => ?_)
        · have hin := nn_leE (by omega) (by omega) c54
          have h8 : j = 96 := by omega
          subst h8
          refine lv_aload_n hx hb dX1_torn_75 rfl (lv_at hl 0 rfl) ?_
          refine lv_aload_n hx hb dX1_torn_76 rfl (lv_at hl 0 rfl) ?_
          refine va_get (D := D) (ci := 1) (v := .int oc) (C := RX1) (T := TX1) (N := 13) hx hb hts in_X1 hown hK hP 0 rfl rfl 12 (by decide) (hts _ q150) (fun _ h9 => h9) rfl dX1_torn_77 ?_
          refine va_put (D := D) (ci := 1) (v := .int oc) (ty := .int) (C := RX1) (T := TX1) (N := 13) hx hb hts in_X1 tyX1 tyX1_ok nmX1 hown hK hP hD hS 0 rfl rfl 3 (by decide) (hts _ q141) (fun _ h9 => h9) rfl (by decide +kernel) rfl rfl (Nat.le_of_ble_eq_true rfl) dX1_torn_80 (fun H locs hP hD hS => ?_)
          have hP : va_P D vwCl (wM ad cI cZ (cf_cpy sz oz 0 0 6, cf_cpy gd og 0 0 6, cf_cpy by_ ob 0 0 96, oc, tr, ver, op, sn, ch, oz, og, ob, oc)) H := hP
          have hD : va_D A (wM ad cI cZ (cf_cpy sz oz 0 0 6, cf_cpy gd og 0 0 6, cf_cpy by_ ob 0 0 96, oc, tr, ver, op, sn, ch, oz, og, ob, oc)) := hD
          refine lv_aload_n hx hb dX1_torn_83 rfl (lv_at hl 0 rfl) ?_
          refine w_callv (wr := []) (mX1_power l D ad cI cZ (cf_cpy sz oz 0 0 6, cf_cpy gd og 0 0 6, cf_cpy by_ ob 0 0 96, oc, tr, ver, op, sn, ch, oz, og, ob, oc)) [0, 1, 2, 3, 4, 5, 6, 7] [] 0 ⟨hx, hb, hml, hown, hts⟩ (cwV 0 hts (lw_V q226 q219 q220 q12 q221) rfl rfl rfl (by decide +kernel) ⟨Nat.le_of_ble_eq_true rfl, Nat.le_of_ble_eq_true rfl⟩) hP hD hK hS hA rfl rfl rfl rfl (by decide) rfl rfl rfl hl.1 rfl (Nat.le_of_ble_eq_true rfl) dX1_torn_84 ⟨Nat.zero_le _, Nat.zero_le _⟩ (fun u H locs hw hP hD hS => ?_)
          subst hw
          have hP : va_P D vwCl (wM ad cI cZ (cf_cpy sz oz 0 0 6, cf_cpy gd og 0 0 6, cf_cpy by_ ob 0 0 96, oc, tr, false, false, sn, false, oz, og, ob, oc)) H := hP
          have hD : va_D A (wM ad cI cZ (cf_cpy sz oz 0 0 6, cf_cpy gd og 0 0 6, cf_cpy by_ ob 0 0 96, oc, tr, false, false, sn, false, oz, og, ob, oc)) := hD
          exact w_vret (S := MDt) (w := wM ad cI cZ) (cf_cpy sz oz 0 0 6, cf_cpy gd og 0 0 6, cf_cpy by_ ob 0 0 96, oc, tr, false, false, sn, false, oz, og, ob, oc) hx hb hr hloc hK hP hD hS dX1_torn_87 (by
                      unfold md_torn
                      rw [if_pos (show md_ch (sz, gd, by_, cd, tr, ver, op, sn, ch, oz, og, ob, oc) = true from hch), if_neg (by rw [hmk]; decide)]
                      rfl)
        · have hin := nn_nleE (by omega) c54
          refine lv_aload_n hx hb dX1_torn_57 rfl (lv_at hl 0 rfl) ?_
          refine va_get (D := D) (ci := 1) (v := .ref (ad 3)) (C := RX1) (T := TX1) (N := 13) hx hb hts in_X1 hown hK hP 0 rfl rfl 2 (by decide) (hts _ q140) (fun _ h9 => h9) rfl dX1_torn_58 ?_
          refine lv_iload_n hx hb dX1_torn_61 rfl (lv_at hl 3 rfl) ?_
          refine lv_aload_n hx hb dX1_torn_62 rfl (lv_at hl 0 rfl) ?_
          refine va_get (D := D) (ci := 1) (v := .ref (ad 7)) (C := RX1) (T := TX1) (N := 13) hx hb hts in_X1 hown hK hP 0 rfl rfl 11 (by decide) (hts _ q149) (fun _ h9 => h9) rfl dX1_torn_63 ?_
          refine lv_iload_n hx hb dX1_torn_66 rfl (lv_at hl 3 rfl) ?_
          refine na_iald (f := ob) hx hb hK hP 7 0 rfl rfl (j := j) (by omega) (by decide) dX1_torn_67 ?_
          refine na_iast (f := cf_cpy by_ ob 0 0 j) (g := cf_cpy by_ ob 0 0 (j + 1)) (x := (ob j)) hx hb hK hP hD hS 3 0 rfl rfl (j := j) (by omega) (by decide) (cf_cpy_s (by omega) (by rw [Nat.zero_add])) dX1_torn_68 (fun H locs hP hD hS => ?_)
          have hP : va_P D vwCl (wM ad cI cZ (cf_cpy sz oz 0 0 6, cf_cpy gd og 0 0 6, cf_cpy by_ ob 0 0 (j + 1), cd, tr, ver, op, sn, ch, oz, og, ob, oc)) H := hP
          have hD : va_D A (wM ad cI cZ (cf_cpy sz oz 0 0 6, cf_cpy gd og 0 0 6, cf_cpy by_ ob 0 0 (j + 1), cd, tr, ver, op, sn, ch, oz, og, ob, oc)) := hD
          refine lv_iinc (v := nI (j + 1)) (lv' := [(3, .int (nI (j + 1))), (0, .ref (ad 0)), (1, .int (cf_b mk)), (2, .int pgs)]) hx hb dX1_torn_69 hl (k := 3) rfl (nI_add _ 1) (by decide) rfl (fun ls hl => ?_)
          refine lv_goto (tgt := 51) hx hb dX1_torn_72 (by decide) ?_
          exact ih2 (k2 - 1) (by omega) _ _ _ ⟨j + 1, by omega, hP, hD, hS, lv_sub hl [1, 2, 3, 0] rfl⟩
      · have hin := nn_nleE (by omega) c16
        refine lv_aload_n hx hb dX1_torn_19 rfl (lv_at hl 0 rfl) ?_
        refine va_get (D := D) (ci := 1) (v := .ref (ad 1)) (C := RX1) (T := TX1) (N := 13) hx hb hts in_X1 hown hK hP 0 rfl rfl 0 (by decide) (hts _ q138) (fun _ h9 => h9) rfl dX1_torn_20 ?_
        refine lv_iload_n hx hb dX1_torn_23 rfl (lv_at hl 3 rfl) ?_
        refine lv_aload_n hx hb dX1_torn_24 rfl (lv_at hl 0 rfl) ?_
        refine va_get (D := D) (ci := 1) (v := .ref (ad 5)) (C := RX1) (T := TX1) (N := 13) hx hb hts in_X1 hown hK hP 0 rfl rfl 9 (by decide) (hts _ q147) (fun _ h9 => h9) rfl dX1_torn_25 ?_
        refine lv_iload_n hx hb dX1_torn_28 rfl (lv_at hl 3 rfl) ?_
        refine na_iald (f := fun k => nI (oz k)) hx hb hK hP 5 0 rfl rfl (j := i) (by omega) (by decide) dX1_torn_29 ?_
        refine w_top (y := nI (oz i)) rfl ?_
        refine na_nast (f := cf_cpy sz oz 0 0 i) (g := cf_cpy sz oz 0 0 (i + 1)) (x := oz i) hx hb hK hP hD hS 1 0 rfl rfl (j := i) (by omega) (by decide) (cf_cpy_s (by omega) (by rw [Nat.zero_add])) dX1_torn_30 (fun H locs hP hD hS => ?_)
        have hP : va_P D vwCl (wM ad cI cZ (cf_cpy sz oz 0 0 (i + 1), cf_cpy gd og 0 0 i, by_, cd, tr, ver, op, sn, ch, oz, og, ob, oc)) H := hP
        have hD : va_D A (wM ad cI cZ (cf_cpy sz oz 0 0 (i + 1), cf_cpy gd og 0 0 i, by_, cd, tr, ver, op, sn, ch, oz, og, ob, oc)) := hD
        refine lv_aload_n hx hb dX1_torn_31 rfl (lv_at hl 0 rfl) ?_
        refine va_get (D := D) (ci := 1) (v := .ref (ad 2)) (C := RX1) (T := TX1) (N := 13) hx hb hts in_X1 hown hK hP 0 rfl rfl 1 (by decide) (hts _ q139) (fun _ h9 => h9) rfl dX1_torn_32 ?_
        refine lv_iload_n hx hb dX1_torn_35 rfl (lv_at hl 3 rfl) ?_
        refine lv_aload_n hx hb dX1_torn_36 rfl (lv_at hl 0 rfl) ?_
        refine va_get (D := D) (ci := 1) (v := .ref (ad 6)) (C := RX1) (T := TX1) (N := 13) hx hb hts in_X1 hown hK hP 0 rfl rfl 10 (by decide) (hts _ q148) (fun _ h9 => h9) rfl dX1_torn_37 ?_
        refine lv_iload_n hx hb dX1_torn_40 rfl (lv_at hl 3 rfl) ?_
        refine na_zald (g := og) hx hb hK hP 6 1 rfl rfl (j := i) (by omega) (by decide) dX1_torn_41 ?_
        refine na_zast (f := cf_cpy gd og 0 0 i) (g := cf_cpy gd og 0 0 (i + 1)) (x := og i) hx hb hK hP hD hS 2 1 rfl rfl (j := i) (by omega) (by decide) (cf_cpy_s (by omega) (by rw [Nat.zero_add])) dX1_torn_42 (fun H locs hP hD hS => ?_)
        have hP : va_P D vwCl (wM ad cI cZ (cf_cpy sz oz 0 0 (i + 1), cf_cpy gd og 0 0 (i + 1), by_, cd, tr, ver, op, sn, ch, oz, og, ob, oc)) H := hP
        have hD : va_D A (wM ad cI cZ (cf_cpy sz oz 0 0 (i + 1), cf_cpy gd og 0 0 (i + 1), by_, cd, tr, ver, op, sn, ch, oz, og, ob, oc)) := hD
        refine lv_iinc (v := nI (i + 1)) (lv' := [(3, .int (nI (i + 1))), (0, .ref (ad 0)), (1, .int (cf_b mk)), (2, .int pgs)]) hx hb dX1_torn_43 hl (k := 3) rfl (nI_add _ 1) (by decide) rfl (fun ls hl => ?_)
        refine lv_goto (tgt := 13) hx hb dX1_torn_46 (by decide) ?_
        exact ih (k - 1) (by omega) _ _ _ ⟨i + 1, by omega, hP, hD, hS, lv_sub hl [1, 2, 3, 0] rfl⟩
set_option maxHeartbeats 4000000 in
set_option maxRecDepth 100000 in
/-- size(file) -/
theorem mX1_size (l : Launch) (D : va_G) (ad : Nat → Nat) (cI cZ : ClassId) (v : MDt) (f : Int32) : MCi l yX1_size cX1_size 2 ({ frames := 0, cells := 0, slots := 0, locals := 0 }) D (tyW cI cZ) [.ref (ad 0), .int f] (wM ad cI cZ v) (fun r v1 => r = md_size v f ∧ v1 = v) (wM ad cI cZ) := by
  obtain ⟨sz, gd, by_, cd, tr, ver, op, sn, ch, oz, og, ob, oc⟩ := v
  unfold MCi
  refine mc_start (Qk := fun A => va_Qi _ (fun u t => bW D (tyW cI cZ) A (wM ad cI cZ u) t) A) (by decide) (Nat.le_of_ble_eq_true rfl) ?_
  intro p e s m below meth c A hx hb hr hml hown hts hloc hnm hK hP hD hA hS ls hl
  have hown : s.vm.findClass RX1 = some m.cls := hown
  have hl : lv_has ls 2 [(0, .ref (ad 0)), (1, .int f)] := hl
  refine lv_iload_n hx hb dX1_size_0 rfl (lv_at hl 1 rfl) ?_
  refine lv_if_lt (tgt := 9) hx hb dX1_size_1 (by decide) (fun c1 => ?_) (fun c1 => ?_)
  · refine lv_iconst (v := 0) hx hb dX1_size_9 (by decide) ?_
    refine lv_goto (tgt := 19) hx hb dX1_size_10 (by decide) ?_
    exact w_iret (S := MDt) (w := wM ad cI cZ) (sz, gd, by_, cd, tr, ver, op, sn, ch, oz, og, ob, oc) hx hb hr hloc hK hP hD hS dX1_size_19 ⟨(if_pos (Or.inl c1)).symm, rfl⟩
  · refine lv_iload_n hx hb dX1_size_4 rfl (lv_at hl 1 rfl) ?_
    refine lv_iconst (v := 5) hx hb dX1_size_5 (by decide) ?_
    refine lv_icmp_le (tgt := 13) hx hb dX1_size_6 (by decide) (fun c6 => ?_) (fun c6 => ?_)
    · obtain ⟨F, hF, rfl⟩ := nn_F c1 c6
      refine lv_aload_n hx hb dX1_size_13 rfl (lv_at hl 0 rfl) ?_
      refine va_get (D := D) (ci := 1) (v := .ref (ad 1)) (C := RX1) (T := TX1) (N := 13) hx hb hts in_X1 hown hK hP 0 rfl rfl 0 (by decide) (hts _ q138) (fun _ h9 => h9) rfl dX1_size_14 ?_
      refine lv_iload_n hx hb dX1_size_17 rfl (lv_at hl 1 rfl) ?_
      refine na_iald (f := fun k => nI (sz k)) hx hb hK hP 1 0 rfl rfl (j := F) (by omega) (by decide) dX1_size_18 ?_
      refine w_top (y := nI (sz F)) rfl ?_
      exact w_iret (S := MDt) (w := wM ad cI cZ) (sz, gd, by_, cd, tr, ver, op, sn, ch, oz, og, ob, oc) hx hb hr hloc hK hP hD hS dX1_size_19 ⟨(by
              unfold md_size
              rw [if_neg (by rintro (q | q); exact c1 q; exact Int32.not_lt.mpr c6 q), nn_cl (by omega)]
              rfl), rfl⟩
    · refine lv_iconst (v := 0) hx hb dX1_size_9 (by decide) ?_
      refine lv_goto (tgt := 19) hx hb dX1_size_10 (by decide) ?_
      exact w_iret (S := MDt) (w := wM ad cI cZ) (sz, gd, by_, cd, tr, ver, op, sn, ch, oz, og, ob, oc) hx hb hr hloc hK hP hD hS dX1_size_19 ⟨(if_pos (Or.inr (Int32.not_le.mp c6))).symm, rfl⟩
set_option maxHeartbeats 4000000 in
set_option maxRecDepth 100000 in
/-- state() -/
theorem mX1_state (l : Launch) (D : va_G) (ad : Nat → Nat) (cI cZ : ClassId) (v : MDt) : MCi l yX1_state cX1_state 1 ({ frames := 0, cells := 0, slots := 0, locals := 0 }) D (tyW cI cZ) [.ref (ad 0)] (wM ad cI cZ v) (fun r v1 => r = md_state v ∧ v1 = v) (wM ad cI cZ) := by
  obtain ⟨sz, gd, by_, cd, tr, ver, op, sn, ch, oz, og, ob, oc⟩ := v
  unfold MCi
  refine mc_start (Qk := fun A => va_Qi _ (fun u t => bW D (tyW cI cZ) A (wM ad cI cZ u) t) A) (by decide) (Nat.le_of_ble_eq_true rfl) ?_
  intro p e s m below meth c A hx hb hr hml hown hts hloc hnm hK hP hD hA hS ls hl
  have hown : s.vm.findClass RX1 = some m.cls := hown
  have hl : lv_has ls 1 [(0, .ref (ad 0))] := hl
  refine lv_aload_n hx hb dX1_state_0 rfl (lv_at hl 0 rfl) ?_
  refine va_get (D := D) (ci := 1) (v := .int tr) (C := RX1) (T := TX1) (N := 13) hx hb hts in_X1 hown hK hP 0 rfl rfl 4 (by decide) (hts _ q142) (fun _ h9 => h9) rfl dX1_state_1 ?_
  refine lv_aload_n hx hb dX1_state_4 rfl (lv_at hl 0 rfl) ?_
  refine va_get (D := D) (ci := 1) (v := .int (cf_b ver)) (C := RX1) (T := TX1) (N := 13) hx hb hts in_X1 hown hK hP 0 rfl rfl 5 (by decide) (hts _ q143) (fun _ h9 => h9) rfl dX1_state_5 ?_
  refine lv_if_eq (tgt := 15) hx hb dX1_state_8 (by decide) (fun c8 => ?_) (fun c8 => ?_)
  · have hver := cf_b_0 c8
    subst hver
    refine lv_iconst (v := 0) hx hb dX1_state_15 (by decide) ?_
    refine lv_iadd hx hb dX1_state_16 ?_
    exact w_iret (S := MDt) (w := wM ad cI cZ) (sz, gd, by_, cd, tr, false, op, sn, ch, oz, og, ob, oc) hx hb hr hloc hK hP hD hS dX1_state_17 ⟨rfl, rfl⟩
  · have hver := cf_b_1 c8
    subst hver
    refine lv_iconst (v := 4) hx hb dX1_state_11 (by decide) ?_
    refine lv_goto (tgt := 16) hx hb dX1_state_12 (by decide) ?_
    refine lv_iadd hx hb dX1_state_16 ?_
    exact w_iret (S := MDt) (w := wM ad cI cZ) (sz, gd, by_, cd, tr, true, op, sn, ch, oz, og, ob, oc) hx hb hr hloc hK hP hD hS dX1_state_17 ⟨rfl, rfl⟩
end
section
/-! THE PLAIN LAW, first half: what log and stage make of the flat view -/
def cf_dvf (home : Nat → Int32) (n : Nat) (lp : Nat → Nat) (lb : Nat → Int32) (j : Nat) : Int32 := cf_dv home n lp lb (j / 8) (j % 8)
def cf_vwf (home : Nat → Int32) (n : Nat) (lp : Nat → Nat) (lb : Nat → Int32) (sg : Nat → Bool) (sb : Nat → Int32) (j : Nat) : Int32 := if sg (j / 8) = true then sb j else cf_dvf home n lp lb j
def cf_lw (n : Nat) (lp : Nat → Nat) : Prop := n ≤ 14 ∧ (∀ k, lp k < 14) ∧ ∀ a b, a < n → b < n → lp a = lp b → a = b
theorem pl_j (j : Nat) : 8 * (j / 8) + j % 8 = j := by omega
theorem cf_look_none {lp : Nat → Nat} {lb : Nat → Int32} {hm : Int32} {pg ix : Nat} : ∀ (c k : Nat), (∀ a, k ≤ a → a < k + c → ¬ lp a = pg) → cf_look lp lb hm pg ix c k = hm := by
  intro c
  induction c with
  | zero => intro k _; rfl
  | succ c ih =>
    intro k h
    show (if lp k = pg then _ else _) = _
    rw [if_neg (h k (Nat.le_refl k) (by omega))]
    exact ih (k + 1) (fun a h1 h2 => h a (by omega) (by omega))
theorem cf_look_some {lp : Nat → Nat} {lb : Nat → Int32} {hm : Int32} {pg ix k0 : Nat} : ∀ (c k : Nat), k ≤ k0 → k0 < k + c → lp k0 = pg → (∀ a, k ≤ a → a < k0 → ¬ lp a = pg) → cf_look lp lb hm pg ix c k = lb (8 * k0 + ix) := by
  intro c
  induction c with
  | zero => intro k h1 h2; omega
  | succ c ih =>
    intro k h1 h2 h3 h4
    show (if lp k = pg then _ else _) = _
    by_cases q : k = k0
    · subst q
      rw [if_pos h3]
    · rw [if_neg (h4 k (Nat.le_refl k) (by omega))]
      exact ih (k + 1) (by omega) (by omega) h3 (fun a h5 h6 => h4 a (by omega) h6)
theorem cf_dvf_none {home : Nat → Int32} {n : Nat} {lp : Nat → Nat} {lb : Nat → Int32} {j : Nat} (h : ∀ a, a < n → ¬ lp a = j / 8) : cf_dvf home n lp lb j = home j := by
  unfold cf_dvf cf_dv
  rw [cf_look_none n 0 (fun a _ h2 => h a (by omega)), pl_j]
theorem cf_dvf_some {home : Nat → Int32} {n : Nat} {lp : Nat → Nat} {lb : Nat → Int32} {j k0 : Nat} (hi : ∀ a b, a < n → b < n → lp a = lp b → a = b) (h0 : k0 < n) (h : lp k0 = j / 8) : cf_dvf home n lp lb j = lb (8 * k0 + j % 8) := by
  unfold cf_dvf cf_dv
  exact cf_look_some n 0 (Nat.zero_le _) (by omega) h (fun a _ h2 h3 => by
    have := hi a k0 (by omega) h0 (by rw [h3, h])
    omega)
theorem cf_dvf_0 (home : Nat → Int32) (lp : Nat → Nat) (lb : Nat → Int32) (j : Nat) : cf_dvf home 0 lp lb j = home j := cf_dvf_none (fun a h => absurd h (Nat.not_lt_zero a))
theorem cf_hk_in {home : Nat → Int32} {lp : Nat → Nat} {lb : Nat → Int32} {k j : Nat} (h : lp k = j / 8) : cf_hk home lp lb k j = lb (8 * k + j % 8) := by
  unfold cf_hk
  rw [cf_cpy_in (by omega) (by omega)]
  congr 1
  omega
theorem cf_hk_out {home : Nat → Int32} {lp : Nat → Nat} {lb : Nat → Int32} {k j : Nat} (h : ¬ lp k = j / 8) : cf_hk home lp lb k j = home j := by
  unfold cf_hk
  rw [cf_cpy_out (by omega)]
theorem cf_hall_none {home : Nat → Int32} {lp : Nat → Nat} {lb : Nat → Int32} {j : Nat} : ∀ n, (∀ a, a < n → ¬ lp a = j / 8) → cf_hall home lp lb n j = home j := by
  intro n
  induction n with
  | zero => intro _; rfl
  | succ n ih =>
    intro h
    show cf_hk _ lp lb n j = _
    rw [cf_hk_out (h n (by omega))]
    exact ih (fun a q => h a (by omega))
theorem cf_hall_some {home : Nat → Int32} {lp : Nat → Nat} {lb : Nat → Int32} {j k0 : Nat} (h : lp k0 = j / 8) : ∀ n, (∀ a b, a < n → b < n → lp a = lp b → a = b) → k0 < n → cf_hall home lp lb n j = lb (8 * k0 + j % 8) := by
  intro n
  induction n with
  | zero => intro _ h2; omega
  | succ n ih =>
    intro hi h2
    show cf_hk _ lp lb n j = _
    by_cases q : k0 = n
    · subst q
      exact cf_hk_in h
    · rw [cf_hk_out (fun z => q (hi k0 n h2 (by omega) (by rw [z, h])))]
      exact ih (fun a b ha hb => hi a b (by omega) (by omega)) (by omega)
theorem cf_hall_dvf {home : Nat → Int32} {n : Nat} {lp : Nat → Nat} {lb : Nat → Int32} (h : cf_lw n lp) (j : Nat) : cf_hall home lp lb n j = cf_dvf home n lp lb j := by
  by_cases q : ∃ k0, k0 < n ∧ lp k0 = j / 8
  · obtain ⟨k0, h1, h2⟩ := q
    rw [cf_hall_some h2 n h.2.2 h1, cf_dvf_some h.2.2 h1 h2]
  · have q2 : ∀ a, a < n → ¬ lp a = j / 8 := fun a h1 h2 => q ⟨a, h1, h2⟩
    rw [cf_hall_none n q2, cf_dvf_none q2]
/-- some pages come home twice -/
theorem cf_hall_twice {home : Nat → Int32} {n m : Nat} {lp : Nat → Nat} {lb : Nat → Int32} (h : cf_lw n lp) (hm : m ≤ n) (j : Nat) : cf_hall (cf_hall home lp lb m) lp lb n j = cf_dvf home n lp lb j := by
  by_cases q : ∃ k0, k0 < n ∧ lp k0 = j / 8
  · obtain ⟨k0, h1, h2⟩ := q
    rw [cf_hall_some h2 n h.2.2 h1, cf_dvf_some h.2.2 h1 h2]
  · have q2 : ∀ a, a < n → ¬ lp a = j / 8 := fun a h1 h2 => q ⟨a, h1, h2⟩
    rw [cf_hall_none n q2, cf_hall_none m (fun a h1 => q2 a (by omega)), cf_dvf_none q2]
/-- what the log is behind a write -/
theorem cf_wl_spec (lp : Nat → Nat) (lb : Nat → Int32) (sg : Nat → Bool) (sb : Nat → Int32) (hlp : ∀ k, lp k < 14) : ∀ p, p ≤ 14 →
    (∀ k, k < (cf_wl lp lb sg sb p).1 → (cf_wl lp lb sg sb p).2.1 k < p ∧ sg ((cf_wl lp lb sg sb p).2.1 k) = true ∧ ∀ i, i < 8 → (cf_wl lp lb sg sb p).2.2 (8 * k + i) = sb (8 * (cf_wl lp lb sg sb p).2.1 k + i)) ∧
    (∀ a b, a < (cf_wl lp lb sg sb p).1 → b < (cf_wl lp lb sg sb p).1 → (cf_wl lp lb sg sb p).2.1 a = (cf_wl lp lb sg sb p).2.1 b → a = b) ∧
    (∀ q, q < p → sg q = true → ∃ k, k < (cf_wl lp lb sg sb p).1 ∧ (cf_wl lp lb sg sb p).2.1 k = q) ∧ (∀ k, (cf_wl lp lb sg sb p).2.1 k < 14) := by
  intro p
  induction p with
  | zero =>
    intro _
    refine ⟨fun k h => absurd h (Nat.not_lt_zero k), fun a b h => absurd h (Nat.not_lt_zero a), fun q h => absurd h (Nat.not_lt_zero q), hlp⟩
  | succ p ih =>
    intro hp
    obtain ⟨h1, h2, h3, h4⟩ := ih (by omega)
    by_cases hs : sg p = true
    · rw [cf_wl_p hs]
      generalize cf_wl lp lb sg sb p = w at h1 h2 h3 h4
      obtain ⟨n, l, b⟩ := w
      dsimp only at h1 h2 h3 h4 ⊢
      refine ⟨fun k hk => ?_, fun a c ha hc e => ?_, fun q hq hsq => ?_, fun k => ?_⟩
      · by_cases q : k = n
        · subst q
          rw [cf_up_s]
          refine ⟨by omega, hs, fun i hi => ?_⟩
          rw [cf_cpy_in (by omega) (by omega)]
          congr 1
          omega
        · obtain ⟨g1, g2, g3⟩ := h1 k (by omega)
          rw [cf_up_n _ _ q]
          refine ⟨by omega, g2, fun i hi => ?_⟩
          rw [cf_cpy_out (by omega)]
          exact g3 i hi
      · by_cases qa : a = n
        · by_cases qc : c = n
          · omega
          · rw [qa, cf_up_s, cf_up_n _ _ qc] at e
            have := (h1 c (by omega)).1
            omega
        · by_cases qc : c = n
          · rw [qc, cf_up_s, cf_up_n _ _ qa] at e
            have := (h1 a (by omega)).1
            omega
          · rw [cf_up_n _ _ qa, cf_up_n _ _ qc] at e
            exact h2 a c (by omega) (by omega) e
      · by_cases qq : q = p
        · exact ⟨n, by omega, by rw [cf_up_s, qq]⟩
        · obtain ⟨k, g1, g2⟩ := h3 q (by omega) hsq
          exact ⟨k, by omega, by rw [cf_up_n _ _ (by omega)]; exact g2⟩
      · by_cases q : k = n
        · rw [q, cf_up_s]; omega
        · rw [cf_up_n _ _ q]; exact h4 k
    · have hf : sg p = false := by
        cases h : sg p
        · rfl
        · exact absurd h hs
      rw [cf_wl_n hf]
      refine ⟨fun k hk => ⟨by have := (h1 k hk).1; omega, (h1 k hk).2⟩, h2, fun q hq hsq => ?_, h4⟩
      by_cases qq : q = p
      · rw [qq, hf] at hsq
        exact absurd hsq (by decide)
      · exact h3 q (by omega) hsq
theorem cf_unst_f (sg : Nat → Bool) {p : Nat} (h : p < 14) : cf_unst sg p = false := by
  unfold cf_unst
  rw [cf_cpy_in (by omega) (by omega)]
/-- a write: the log is well formed, home is the view before it, the view is what was staged -/
theorem cf_write_spec {home : Nat → Int32} {n : Nat} {lp : Nat → Nat} {lb : Nat → Int32} (sg : Nat → Bool) (sb : Nat → Int32) (h : cf_lw n lp) :
    cf_lw (cf_wl lp lb sg sb 14).1 (cf_wl lp lb sg sb 14).2.1 ∧ ∀ j, j < 112 → cf_dvf (cf_hall home lp lb n) (cf_wl lp lb sg sb 14).1 (cf_wl lp lb sg sb 14).2.1 (cf_wl lp lb sg sb 14).2.2 j = cf_vwf home n lp lb sg sb j := by
  obtain ⟨h1, h2, h3, h4⟩ := cf_wl_spec lp lb sg sb h.2.1 14 (Nat.le_refl 14)
  refine ⟨⟨cf_wl_le lp lb sg sb 14, h4, h2⟩, fun j hj => ?_⟩
  unfold cf_vwf
  by_cases hs : sg (j / 8) = true
  · rw [if_pos hs]
    obtain ⟨k, g1, g2⟩ := h3 (j / 8) (by omega) hs
    rw [cf_dvf_some h2 g1 g2, (h1 k g1).2.2 (j % 8) (by omega), g2, pl_j]
  · rw [if_neg hs, cf_dvf_none (fun a ha e => hs (by rw [← e]; exact (h1 a ha).2.1)), cf_hall_dvf h]
/-- stage: nothing is to be seen of it -/
theorem cf_stage_spec (u : CFt) (pg : Nat) : match u with
  | (home, n, lp, lb, tr, ver, tx, sg, sb) => ∃ sg1 sb1, cf_stage u pg = (home, n, lp, lb, tr, ver, tx, sg1, sb1) ∧ (∀ p, sg1 p = if p = pg then true else sg p) ∧ ∀ j, cf_vwf home n lp lb sg1 sb1 j = cf_vwf home n lp lb sg sb j := by
  obtain ⟨home, n, lp, lb, tr, ver, tx, sg, sb⟩ := u
  by_cases hs : sg pg = true
  · refine ⟨sg, sb, if_pos hs, fun p => ?_, fun j => rfl⟩
    by_cases q : p = pg
    · rw [if_pos q, q, hs]
    · rw [if_neg q]
  · refine ⟨_, _, if_neg hs, fun p => rfl, fun j => ?_⟩
    unfold cf_vwf
    by_cases q : j / 8 = pg
    · rw [if_pos (by rw [q]; exact cf_up_s _ _ _), if_neg (by rw [q]; exact hs), cf_cpy_in (by omega) (by omega)]
      unfold cf_dvf
      congr 1
      · omega
      · omega
    · rw [cf_up_n _ _ q, cf_cpy_out (by omega)]
theorem cf_set_vwf {home : Nat → Int32} {n : Nat} {lp : Nat → Nat} {lb : Nat → Int32} {sg : Nat → Bool} {sb : Nat → Int32} {j0 : Nat} {x : Int32} (h : sg (j0 / 8) = true) (j : Nat) : cf_vwf home n lp lb sg (cf_up sb j0 x) j = if j = j0 then x else cf_vwf home n lp lb sg sb j := by
  unfold cf_vwf
  by_cases q : j = j0
  · rw [if_pos q, q, if_pos h, cf_up_s]
  · rw [if_neg q, cf_up_n _ _ q]
theorem cf_byte_vwf (home : Nat → Int32) (n : Nat) (lp : Nat → Nat) (lb : Nat → Int32) (tr : Int32) (ver tx : Bool) (sg : Nat → Bool) (sb : Nat → Int32) {pg ix : Nat} (h : ix < 8) : cf_byte (home, n, lp, lb, tr, ver, tx, sg, sb) pg ix = cf_vwf home n lp lb sg sb (8 * pg + ix) := by
  unfold cf_vwf cf_dvf
  rw [show (8 * pg + ix) / 8 = pg by omega, show (8 * pg + ix) % 8 = ix by omega]
  rfl
theorem cf_vwf_n {home : Nat → Int32} {n : Nat} {lp : Nat → Nat} {lb : Nat → Int32} {sg : Nat → Bool} {sb : Nat → Int32} {j : Nat} (h : sg (j / 8) = false) : cf_vwf home n lp lb sg sb j = cf_dvf home n lp lb j := by
  unfold cf_vwf
  rw [h, if_neg (by decide)]
end
section
/-! THE PLAIN LAW, second half: the relation between the two states, kept by every call, which answers alike -/
/-- the flat view F holds what the model's files say -/
def im_ok (F : Nat → Int32) (sz : Nat → Nat) (gd : Nat → Bool) (by_ : Nat → Int32) (cd : Int32) : Prop :=
  (∀ j, j < 96 → by_ j = F j) ∧ (∀ f, f < 6 → sz f ≤ 16 ∧ F (96 + f) = nI (sz f) + (if gd f = true then 32 else 0)) ∧ F 104 + 256 * F 105 = cd ∧ ∀ f, f < 6 → sz f = 0 → ∀ i, i < 16 → by_ (16 * f + i) = 0
def rl (u : CFt) (v : MDt) : Prop := match u, v with
  | (home, n, lp, lb, tr, ver, tx, sg, sb), (sz, gd, by_, cd, tr2, ver2, op, sn, ch, oz, og, ob, oc) =>
    cf_lw n lp ∧ tr = tr2 ∧ ver = ver2 ∧ tx = op ∧ im_ok (cf_dvf home n lp lb) sz gd by_ cd ∧ (ch = true → im_ok home oz og ob oc) ∧ (ch = false → n = 0) ∧ (tx = false → ∀ p, p < 14 → sg p = false) ∧
      (tx = true → sg 12 = false ∧ sg 13 = false ∧ (∀ j, j < 96 → sn j = cf_vwf home n lp lb sg sb j) ∧ ∀ f, f < 6 → sz f = 0 → ∀ i, i < 16 → sn (16 * f + i) = 0)
theorem im_F {F G : Nat → Int32} {sz : Nat → Nat} {gd : Nat → Bool} {by_ : Nat → Int32} {cd : Int32} (h : im_ok F sz gd by_ cd) (e : ∀ j, j < 112 → G j = F j) : im_ok G sz gd by_ cd := by
  obtain ⟨h1, h2, h3, h4⟩ := h
  refine ⟨fun j hj => ?_, fun f hf => ?_, ?_, h4⟩
  · rw [e j (by omega)]; exact h1 j hj
  · rw [e (96 + f) (by omega)]; exact h2 f hf
  · rw [e 104 (by omega), e 105 (by omega)]; exact h3
theorem im_K {F : Nat → Int32} {sz sz' : Nat → Nat} {gd gd' : Nat → Bool} {by_ by' : Nat → Int32} {cd : Int32} (h : im_ok F sz gd by_ cd) (e1 : ∀ f, f < 6 → sz' f = sz f) (e2 : ∀ f, f < 6 → gd' f = gd f) (e3 : ∀ j, j < 96 → by' j = by_ j) : im_ok F sz' gd' by' cd := by
  obtain ⟨h1, h2, h3, h4⟩ := h
  refine ⟨fun j hj => ?_, fun f hf => ?_, h3, fun f hf hz i hi => ?_⟩
  · rw [e3 j hj]; exact h1 j hj
  · rw [e1 f hf, e2 f hf]; exact h2 f hf
  · rw [e3 _ (by omega)]; exact h4 f hf (by rw [← e1 f hf]; exact hz) i hi
/-- the copy that 'keep' makes -/
theorem im_keep {F : Nat → Int32} {sz oz : Nat → Nat} {gd og : Nat → Bool} {by_ ob : Nat → Int32} {cd : Int32} (h : im_ok F sz gd by_ cd) : im_ok F (cf_cpy oz sz 0 0 6) (cf_cpy og gd 0 0 6) (cf_cpy ob by_ 0 0 96) cd := by
  refine im_K h (fun f hf => ?_) (fun f hf => ?_) (fun j hj => ?_)
  · rw [cf_cpy_in (by omega) (by omega)]; congr 1; omega
  · rw [cf_cpy_in (by omega) (by omega)]; congr 1; omega
  · rw [cf_cpy_in (by omega) (by omega)]; congr 1; omega
theorem pl_hdr : ∀ z, z < 17 → ∀ g : Bool, (nI z + (if g = true then 32 else 0)) &&& 31 = nI z ∧ ((nI z + (if g = true then 32 else 0)) &&& 32 = 0 ↔ g = false) := by decide
/-- the header page is never staged between calls -/
theorem rl_sg12 {tx : Bool} {sg : Nat → Bool} (h1 : tx = false → ∀ p, p < 14 → sg p = false) (h2 : tx = true → sg 12 = false ∧ sg 13 = false) : sg 12 = false ∧ sg 13 = false := by
  cases tx
  · exact ⟨h1 rfl 12 (by omega), h1 rfl 13 (by omega)⟩
  · exact h2 rfl
theorem rl_hdr {u : CFt} {v : MDt} (h : rl u v) {F : Nat} (hF : F ≤ 5) : cf_byte u 12 F &&& 31 = nI (md_sz v F) ∧ (cf_byte u 12 F &&& 32 = 0 ↔ md_gd v F = false) := by
  obtain ⟨home, n, lp, lb, tr, ver, tx, sg, sb⟩ := u
  obtain ⟨sz, gd, by_, cd, tr2, ver2, op, sn, ch, oz, og, ob, oc⟩ := v
  obtain ⟨hl, e1, e2, e3, hi, ho, hn, ht, hs⟩ := h
  have hsg := rl_sg12 ht (fun q => ⟨(hs q).1, (hs q).2.1⟩)
  rw [cf_byte_vwf _ _ _ _ _ _ _ _ _ (by omega), cf_vwf_n (by rw [show (8 * 12 + F) / 8 = 12 by omega]; exact hsg.1)]
  obtain ⟨g1, g2⟩ := hi.2.1 F (by omega)
  rw [show 8 * 12 + F = 96 + F by omega, g2]
  exact pl_hdr (sz F) (by omega) (gd F)
theorem rl_size {u : CFt} {v : MDt} (h : rl u v) (f : Int32) : cf_size u f = md_size v f := by
  unfold cf_size md_size
  by_cases q : f < 0 ∨ 5 < f
  · rw [if_pos q, if_pos q]
  · rw [if_neg q, if_neg q]
    obtain ⟨F, hF, rfl⟩ := nn_F (fun z => q (Or.inl z)) (Int32.not_lt.mp (fun z => q (Or.inr z)))
    rw [nn_cl (by omega)]
    exact (rl_hdr h hF).1
theorem rl_ver {u : CFt} {v : MDt} (h : rl u v) : cf_ver u = md_ver v := by
  obtain ⟨home, n, lp, lb, tr, ver, tx, sg, sb⟩ := u
  obtain ⟨sz, gd, by_, cd, tr2, ver2, op, sn, ch, oz, og, ob, oc⟩ := v
  exact h.2.2.1
theorem rl_tr {u : CFt} {v : MDt} (h : rl u v) : cf_tr u = md_tr v := by
  obtain ⟨home, n, lp, lb, tr, ver, tx, sg, sb⟩ := u
  obtain ⟨sz, gd, by_, cd, tr2, ver2, op, sn, ch, oz, og, ob, oc⟩ := v
  exact h.2.1
theorem rl_tx {u : CFt} {v : MDt} (h : rl u v) : cf_tx u = md_op v := by
  obtain ⟨home, n, lp, lb, tr, ver, tx, sg, sb⟩ := u
  obtain ⟨sz, gd, by_, cd, tr2, ver2, op, sn, ch, oz, og, ob, oc⟩ := v
  exact h.2.2.2.1
theorem rl_cfok {u : CFt} {v : MDt} (h : rl u v) : cf_ok u := by
  obtain ⟨home, n, lp, lb, tr, ver, tx, sg, sb⟩ := u
  obtain ⟨sz, gd, by_, cd, tr2, ver2, op, sn, ch, oz, og, ob, oc⟩ := v
  exact ⟨h.1.1, h.1.2.1⟩
theorem rl_mdok {u : CFt} {v : MDt} (h : rl u v) : md_ok v := by
  obtain ⟨home, n, lp, lb, tr, ver, tx, sg, sb⟩ := u
  obtain ⟨sz, gd, by_, cd, tr2, ver2, op, sn, ch, oz, og, ob, oc⟩ := v
  exact fun k hk => (h.2.2.2.2.1.2.1 k hk).1
theorem rl_state {u : CFt} {v : MDt} (h : rl u v) : cf_state u = md_state v := by
  unfold cf_state md_state
  rw [rl_tr h, rl_ver h]
theorem rl_refuse {u : CFt} {v : MDt} (h : rl u v) (f o : Int32) : cf_refuse u f o = md_refuse v f o := by
  unfold cf_refuse md_refuse
  rw [rl_size h f, rl_ver h]
  by_cases q : f < 0 ∨ 5 < f
  · rw [if_pos (by rcases q with q | q; exact Or.inl q; exact Or.inr (Or.inl q)), if_pos (by rcases q with q | q; exact Or.inl q; exact Or.inr (Or.inl q))]
  · have hs : md_size v f = nI (md_sz v f.toNatClampNeg) := if_neg q
    rw [hs]
    by_cases q2 : f < 0 ∨ 5 < f ∨ o < 0 ∨ nI (md_sz v f.toNatClampNeg) ≤ o
    · rw [if_pos q2, if_pos q2]
    · rw [if_neg q2, if_neg q2]
      obtain ⟨F, hF, rfl⟩ := nn_F (fun z => q (Or.inl z)) (Int32.not_lt.mp (fun z => q (Or.inr z)))
      rw [nn_cl (by omega)]
      have hg := (rl_hdr h hF).2
      cases e : md_gd v F
      · rw [if_pos (hg.mpr e), if_neg (by decide)]
      · rw [if_neg (fun z => by have := hg.mp z; rw [e] at this; cases this), if_pos rfl]
theorem md_refuse_cases (v : MDt) (f o : Int32) : md_refuse v f o < 0 ∨ md_refuse v f o = 0 := by
  unfold md_refuse
  by_cases q : f < 0 ∨ 5 < f ∨ o < 0 ∨ nI (md_sz v f.toNatClampNeg) ≤ o
  · rw [if_pos q]; exact Or.inl (by decide)
  · rw [if_neg q]
    by_cases q2 : md_gd v f.toNatClampNeg = true
    · rw [if_pos q2]
      by_cases q3 : md_ver v = true
      · rw [if_pos q3]; exact Or.inr rfl
      · rw [if_neg q3]; exact Or.inl (by decide)
    · rw [if_neg q2]; exact Or.inr rfl
/-- what is known where nothing is refused -/
theorem md_refuse_in {v : MDt} {f o : Int32} (hv : md_ok v) (h : md_refuse v f o = 0) : ∃ F O : Nat, F ≤ 5 ∧ O < 16 ∧ O < md_sz v F ∧ f = nI F ∧ o = nI O := by
  obtain ⟨F, O, hF, hO, rfl, rfl⟩ := md_refuse_ge hv (by rw [h]; decide)
  refine ⟨F, O, hF, hO, ?_, rfl, rfl⟩
  unfold md_refuse at h
  by_cases q : nI F < 0 ∨ 5 < nI F ∨ nI O < 0 ∨ nI (md_sz v (nI F).toNatClampNeg) ≤ nI O
  · rw [if_pos q] at h
    exact absurd h (by decide)
  · have hs : nI O < nI (md_sz v (nI F).toNatClampNeg) := Int32.not_le.mp (fun z => q (Or.inr (Or.inr (Or.inr z))))
    rw [nn_cl (by omega)] at hs
    have hz : md_sz v F ≤ 16 := hv F (by omega)
    exact (nI_ltI (by omega) (by omega)).mp hs
theorem rl_read {u : CFt} {v : MDt} (h : rl u v) (f o : Int32) : cf_read u f o = md_read v f o := by
  unfold cf_read md_read
  rw [rl_refuse h]
  rcases md_refuse_cases v f o with q | q
  · rw [if_neg (fun z => by rw [z] at q; exact absurd q (by decide)), if_pos q]
  · rw [if_pos q, if_neg (by rw [q]; decide)]
    obtain ⟨F, O, hF, hO, hz, rfl, rfl⟩ := md_refuse_in (rl_mdok h) q
    unfold cf_page md_ix
    rw [nn_cl (by omega), nn_cl (by omega)]
    obtain ⟨home, n, lp, lb, tr, ver, tx, sg, sb⟩ := u
    obtain ⟨sz, gd, by_, cd, tr2, ver2, op, sn, ch, oz, og, ob, oc⟩ := v
    obtain ⟨hl, e1, e2, e3, hi, ho, hn, ht, hs⟩ := h
    rw [cf_byte_vwf _ _ _ _ _ _ _ _ _ (by omega), show 8 * (2 * F + O / 8) + O % 8 = 16 * F + O by omega]
    show _ = if op = true then sn (16 * F + O) else by_ (16 * F + O)
    subst e3
    cases tx
    · rw [if_neg (by decide), cf_vwf_n (ht rfl _ (by omega)), hi.1 _ (by omega)]
    · rw [if_pos rfl, (hs rfl).2.2.1 _ (by omega)]
theorem rl_begin {u : CFt} {v : MDt} (h : rl u v) : (cf_begin u).1 = (md_begin v).1 ∧ rl (cf_begin u).2 (md_begin v).2 := by
  have hx := rl_tx h
  unfold cf_begin md_begin
  rw [hx]
  by_cases q : md_op v = true
  · rw [if_pos q, if_pos q]; exact ⟨rfl, h⟩
  · rw [if_neg q, if_neg q]
    obtain ⟨home, n, lp, lb, tr, ver, tx, sg, sb⟩ := u
    obtain ⟨sz, gd, by_, cd, tr2, ver2, op, sn, ch, oz, og, ob, oc⟩ := v
    obtain ⟨hl, e1, e2, e3, hi, ho, hn, ht, hs⟩ := h
    have hop : tx = false := by
      rw [e3]
      exact Bool.eq_false_iff.mpr q
    have hsg := ht hop
    refine ⟨rfl, hl, e1, e2, rfl, hi, ho, hn, fun z => absurd z (by decide), fun _ => ⟨hsg 12 (by omega), hsg 13 (by omega), fun j hj => ?_, fun f hf hz i hi2 => ?_⟩⟩
    · rw [cf_cpy_in (by omega) (by omega), cf_vwf_n (hsg _ (by omega)), show 0 + (j - 0) = j by omega]
      exact hi.1 j hj
    · rw [cf_cpy_in (by omega) (by omega), show 0 + (16 * f + i - 0) = 16 * f + i by omega]
      exact hi.2.2.2 f hf hz i hi2
theorem rl_abort {u : CFt} {v : MDt} (h : rl u v) : (cf_abort u).1 = (md_abort v).1 ∧ rl (cf_abort u).2 (md_abort v).2 := by
  have hx := rl_tx h
  unfold cf_abort md_abort
  rw [hx]
  by_cases q : md_op v = true
  · rw [if_pos q, if_pos q]
    obtain ⟨home, n, lp, lb, tr, ver, tx, sg, sb⟩ := u
    obtain ⟨sz, gd, by_, cd, tr2, ver2, op, sn, ch, oz, og, ob, oc⟩ := v
    obtain ⟨hl, e1, e2, e3, hi, ho, hn, ht, hs⟩ := h
    exact ⟨rfl, hl, e1, e2, rfl, hi, ho, hn, fun _ p hp => cf_unst_f sg hp, fun z => absurd z (by decide)⟩
  · rw [if_neg q, if_neg q]; exact ⟨rfl, h⟩
theorem rl_commit {u : CFt} {v : MDt} (h : rl u v) : (cf_commit u).1 = (md_commit v).1 ∧ rl (cf_commit u).2 (md_commit v).2 := by
  have hx := rl_tx h
  unfold cf_commit md_commit
  rw [hx]
  by_cases q : md_op v = true
  · rw [if_pos q, if_pos q]
    obtain ⟨home, n, lp, lb, tr, ver, tx, sg, sb⟩ := u
    obtain ⟨sz, gd, by_, cd, tr2, ver2, op, sn, ch, oz, og, ob, oc⟩ := v
    obtain ⟨hl, e1, e2, e3, hi, ho, hn, ht, hs⟩ := h
    have hop : tx = true := by
      rw [e3]
      exact q
    obtain ⟨s12, s13, hsn, hz0⟩ := hs hop
    obtain ⟨hl2, hv⟩ := cf_write_spec (home := home) (lb := lb) sg sb hl
    have hcp : ∀ j, j < 96 → cf_cpy by_ sn 0 0 96 j = sn j := fun j hj => by rw [cf_cpy_in (by omega) (by omega)]; congr 1; omega
    refine ⟨rfl, hl2, e1, e2, rfl, ⟨fun j hj => ?_, fun f hf => ?_, ?_, fun f hf hz i hi2 => ?_⟩, fun _ => ?_, fun z => absurd z (by decide), fun _ p hp => cf_unst_f sg hp, fun z => absurd z (by decide)⟩
    · rw [hv j (by omega), hcp j hj]; exact hsn j hj
    · rw [hv _ (by omega), cf_vwf_n (by rw [show (96 + f) / 8 = 12 by omega]; exact s12)]; exact hi.2.1 f hf
    · rw [hv _ (by omega), hv _ (by omega), cf_vwf_n s13, cf_vwf_n s13]; exact hi.2.2.1
    · rw [hcp _ (by omega)]; exact hz0 f hf hz i hi2
    · exact im_F (im_keep hi) (fun j _ => cf_hall_dvf hl j)
  · rw [if_neg q, if_neg q]; exact ⟨rfl, h⟩
theorem rl_verify {u : CFt} {v : MDt} (h : rl u v) (c : Int32) : (cf_verify u c).1 = (md_verify v c).1 ∧ rl (cf_verify u c).2 (md_verify v c).2 := by
  have hown : cf_own u = md_cd v := by
    obtain ⟨home, n, lp, lb, tr, ver, tx, sg, sb⟩ := u
    obtain ⟨sz, gd, by_, cd, tr2, ver2, op, sn, ch, oz, og, ob, oc⟩ := v
    obtain ⟨hl, e1, e2, e3, hi, ho, hn, ht, hs⟩ := h
    have hsg := rl_sg12 ht (fun q => ⟨(hs q).1, (hs q).2.1⟩)
    unfold cf_own
    rw [cf_byte_vwf _ _ _ _ _ _ _ _ _ (by omega), cf_byte_vwf _ _ _ _ _ _ _ _ _ (by omega), cf_vwf_n hsg.2, cf_vwf_n hsg.2]
    exact hi.2.2.1
  unfold cf_verify md_verify
  rw [rl_tr h, hown]
  by_cases q : md_tr v = 0
  · rw [if_pos q, if_pos q]; exact ⟨rfl, h⟩
  · rw [if_neg q, if_neg q]
    by_cases q2 : md_cd v = c
    · rw [if_pos q2, if_pos q2.symm]
      obtain ⟨home, n, lp, lb, tr, ver, tx, sg, sb⟩ := u
      obtain ⟨sz, gd, by_, cd, tr2, ver2, op, sn, ch, oz, og, ob, oc⟩ := v
      obtain ⟨hl, e1, e2, e3, hr⟩ := h
      exact ⟨rfl, hl, rfl, rfl, e3, hr⟩
    · rw [if_neg q2, if_neg (fun z => q2 z.symm)]
      obtain ⟨home, n, lp, lb, tr, ver, tx, sg, sb⟩ := u
      obtain ⟨sz, gd, by_, cd, tr2, ver2, op, sn, ch, oz, og, ob, oc⟩ := v
      obtain ⟨hl, e1, e2, e3, hr⟩ := h
      exact ⟨rfl, hl, rfl, rfl, e3, hr⟩
theorem rl_power {u : CFt} {v : MDt} (h : rl u v) : rl (cf_start u) (md_power v) := by
  obtain ⟨home, n, lp, lb, tr, ver, tx, sg, sb⟩ := u
  obtain ⟨sz, gd, by_, cd, tr2, ver2, op, sn, ch, oz, og, ob, oc⟩ := v
  obtain ⟨hl, e1, e2, e3, hi, ho, hn, ht, hs⟩ := h
  refine ⟨⟨by omega, hl.2.1, fun a b ha => absurd ha (Nat.not_lt_zero a)⟩, e1, rfl, rfl, im_F hi (fun j _ => ?_), fun z => absurd z (by decide), fun _ => rfl, fun _ p hp => cf_unst_f sg hp, fun z => absurd z (by decide)⟩
  rw [cf_dvf_0]
  exact cf_hall_dvf hl j
theorem rl_torn {u : CFt} {v : MDt} (h : rl u v) (mk : Bool) (pg : Int32) : rl (cf_torn u mk pg) (md_torn v mk) := by
  obtain ⟨home, n, lp, lb, tr, ver, tx, sg, sb⟩ := u
  obtain ⟨sz, gd, by_, cd, tr2, ver2, op, sn, ch, oz, og, ob, oc⟩ := v
  obtain ⟨hl, e1, e2, e3, hi, ho, hn, ht, hs⟩ := h
  have hw0 : cf_lw 0 lp := ⟨by omega, hl.2.1, fun a b ha => absurd ha (Nat.not_lt_zero a)⟩
  have hT : ∀ (H : Nat → Int32) (sz' : Nat → Nat) (gd' : Nat → Bool) (by' : Nat → Int32) (cd' : Int32), im_ok H sz' gd' by' cd' → rl (H, 0, lp, lb, tr, false, false, cf_unst sg, sb) (sz', gd', by', cd', tr2, false, false, sn, false, oz, og, ob, oc) := by
    intro H sz' gd' by' cd' hI
    exact ⟨hw0, e1, rfl, rfl, im_F hI (fun j _ => cf_dvf_0 H lp lb j), fun z => absurd z (by decide), fun _ => rfl, fun _ p hp => cf_unst_f sg hp, fun z => absurd z (by decide)⟩
  cases mk
  · have hm0 : min 0 pg.toNatClampNeg = 0 := by omega
    have e : cf_torn (home, n, lp, lb, tr, ver, tx, sg, sb) false pg = (home, 0, lp, lb, tr, false, false, cf_unst sg, sb) := by
      show (cf_hall (cf_hall home lp lb (min 0 pg.toNatClampNeg)) lp lb 0, 0, lp, lb, tr, false, false, cf_unst sg, sb) = _
      rw [hm0]
      rfl
    rw [e]
    cases ch
    · refine hT home sz gd by_ cd (im_F hi (fun j _ => ?_))
      rw [hn rfl, cf_dvf_0]
    · refine hT home _ _ _ oc (im_K (ho rfl) (fun f hf => ?_) (fun f hf => ?_) (fun j hj => ?_))
      · rw [cf_cpy_in (by omega) (by omega)]; congr 1; omega
      · rw [cf_cpy_in (by omega) (by omega)]; congr 1; omega
      · rw [cf_cpy_in (by omega) (by omega)]; congr 1; omega
  · have hI : im_ok (cf_hall (cf_hall home lp lb (min n pg.toNatClampNeg)) lp lb n) sz gd by_ cd := im_F hi (fun j _ => cf_hall_twice hl (by omega) j)
    cases ch
    · exact hT _ sz gd by_ cd hI
    · exact hT _ sz gd by_ cd hI
end
section
/-! THE PLAIN LAW, the calls that write; the two states at their start -/
theorem rl_write {home : Nat → Int32} {n : Nat} {lp : Nat → Nat} {lb : Nat → Int32} {tr : Int32} {ver : Bool} {sg : Nat → Bool} {sb : Nat → Int32} {sz sz1 oz : Nat → Nat} {gd gd1 og : Nat → Bool} {by_ by1 ob sn : Nat → Int32} {cd cd1 : Int32} (hl : cf_lw n lp) (hi : im_ok (cf_dvf home n lp lb) sz gd by_ cd) (hI : im_ok (cf_vwf home n lp lb sg sb) sz1 gd1 by1 cd1) :
    rl (cf_write (home, n, lp, lb, tr, ver, false, sg, sb)) (sz1, gd1, by1, cd1, tr, ver, false, sn, true, cf_cpy oz sz 0 0 6, cf_cpy og gd 0 0 6, cf_cpy ob by_ 0 0 96, cd) := by
  obtain ⟨hl2, hv⟩ := cf_write_spec (home := home) (lb := lb) sg sb hl
  exact ⟨hl2, rfl, rfl, rfl, im_F hI hv, fun _ => im_F (im_keep hi) (fun j _ => cf_hall_dvf hl j), fun z => absurd z (by decide), fun _ p hp => cf_unst_f sg hp, fun z => absurd z (by decide)⟩
theorem rl_create {u : CFt} {v : MDt} (h : rl u v) (f z : Int32) (g : Bool) : (cf_create u f z g).1 = (md_create v f z g).1 ∧ rl (cf_create u f z g).2 (md_create v f z g).2 := by
  have hx := rl_tx h
  unfold cf_create md_create
  rw [hx, rl_size h]
  by_cases q : f < 0 ∨ 5 < f
  · rw [if_pos (by rcases q with q | q; exact Or.inl q; exact Or.inr (Or.inl q)), if_pos (by rcases q with q | q; exact Or.inl q; exact Or.inr (Or.inl q))]
    exact ⟨rfl, h⟩
  · have hsz : md_size v f = nI (md_sz v f.toNatClampNeg) := if_neg q
    rw [hsz]
    by_cases q2 : f < 0 ∨ 5 < f ∨ 0 < nI (md_sz v f.toNatClampNeg) ∨ z < 1 ∨ 16 < z
    · rw [if_pos q2, if_pos q2]; exact ⟨rfl, h⟩
    · rw [if_neg q2, if_neg q2]
      by_cases q3 : md_op v = true
      · rw [if_pos q3, if_pos q3]; exact ⟨rfl, h⟩
      · rw [if_neg q3, if_neg q3]
        obtain ⟨F, hF, rfl⟩ := nn_F (fun z => q (Or.inl z)) (Int32.not_lt.mp (fun z => q (Or.inr z)))
        obtain ⟨Z, hZ1, hZ2, rfl⟩ := nn_Z (fun w => q2 (Or.inr (Or.inr (Or.inr (Or.inl w))))) (Int32.not_lt.mp (fun w => q2 (Or.inr (Or.inr (Or.inr (Or.inr w))))))
        rw [nn_cl (by omega), nn_cl (by omega)]
        have hz0 : ¬ 0 < nI (md_sz v F) := fun w => q2 (Or.inr (Or.inr (Or.inl (by rw [nn_cl (by omega)]; exact w))))
        obtain ⟨home, n, lp, lb, tr, ver, tx, sg, sb⟩ := u
        obtain ⟨sz, gd, by_, cd, tr2, ver2, op, sn, ch, oz, og, ob, oc⟩ := v
        obtain ⟨hl, e1, e2, e3, hi, ho, hn, ht, hs⟩ := h
        have hop : op = false := Bool.eq_false_iff.mpr q3
        subst e1
        subst e2
        subst e3
        subst hop
        have hszF : sz F = 0 := by
          rcases Nat.eq_zero_or_pos (sz F) with w | w
          · exact w
          · exact absurd (nI_lt (a := 0) (b := sz F) w (by have := (hi.2.1 F (by omega)).1; omega)) hz0
        obtain ⟨sg1, sb1, hst, hsg1, hvw⟩ := cf_stage_spec (home, n, lp, lb, tr, ver, false, sg, sb) 12
        rw [hst]
        refine ⟨rfl, ?_⟩
        refine rl_write hl hi ?_
        have hV : ∀ j, j < 112 → cf_vwf home n lp lb sg1 (cf_up sb1 (96 + F) (nI Z + (if g = true then 32 else 0))) j = if j = 96 + F then (nI Z + (if g = true then 32 else 0)) else cf_dvf home n lp lb j := by
          intro j hj
          rw [cf_set_vwf (by rw [hsg1, if_pos (by omega)])]
          by_cases w : j = 96 + F
          · rw [if_pos w, if_pos w]
          · rw [if_neg w, if_neg w, hvw, cf_vwf_n (ht rfl _ (by omega))]
        refine ⟨fun j hj => ?_, fun f hf => ?_, ?_, fun f hf hz i hi2 => ?_⟩
        · rw [hV j (by omega), if_neg (by omega)]
          by_cases w : 16 * F ≤ j ∧ j < 16 * F + 16
          · rw [cf_cpy_in w.1 w.2, ← hi.1 j hj]
            have hq := hi.2.2.2 F (by omega) hszF (j - 16 * F) (by omega)
            rw [show 16 * F + (j - 16 * F) = j by omega] at hq
            exact hq.symm
          · rw [cf_cpy_out w]; exact hi.1 j hj
        · rw [hV _ (by omega)]
          by_cases w : f = F
          · rw [if_pos (by omega), w, cf_up_s, cf_up_s]; exact ⟨hZ2, rfl⟩
          · rw [if_neg (by omega), cf_up_n _ _ w, cf_up_n _ _ w]; exact hi.2.1 f hf
        · rw [hV _ (by omega), hV _ (by omega), if_neg (by omega), if_neg (by omega)]; exact hi.2.2.1
        · by_cases w : f = F
          · rw [w, cf_up_s] at hz; omega
          · rw [cf_up_n _ _ w] at hz
            rw [cf_cpy_out (by omega)]
            exact hi.2.2.2 f hf hz i hi2
theorem rl_update {u : CFt} {v : MDt} (h : rl u v) (f o x : Int32) : (cf_update u f o x).1 = (md_update v f o x).1 ∧ rl (cf_update u f o x).2 (md_update v f o x).2 := by
  have hx := rl_tx h
  unfold cf_update md_update
  rw [rl_refuse h, hx]
  rcases md_refuse_cases v f o with q | q
  · rw [if_neg (fun z => by rw [z] at q; exact absurd q (by decide)), if_pos q]
    exact ⟨rfl, h⟩
  · rw [if_pos q, if_neg (show ¬ md_refuse v f o < 0 by rw [q]; decide)]
    obtain ⟨F, O, hF, hO, hz, rfl, rfl⟩ := md_refuse_in (rl_mdok h) q
    unfold cf_upd1 cf_page md_ix
    rw [nn_cl (by omega), nn_cl (by omega), show 8 * (2 * F + O / 8) + O % 8 = 16 * F + O by omega]
    generalize x &&& 255 = y
    obtain ⟨home, n, lp, lb, tr, ver, tx, sg, sb⟩ := u
    obtain ⟨sz, gd, by_, cd, tr2, ver2, op, sn, ch, oz, og, ob, oc⟩ := v
    obtain ⟨hl, e1, e2, e3, hi, ho, hn, ht, hs⟩ := h
    have hz : O < sz F := hz
    subst e1
    subst e2
    subst e3
    obtain ⟨sg1, sb1, hst, hsg1, hvw⟩ := cf_stage_spec (home, n, lp, lb, tr, ver, tx, sg, sb) (2 * F + O / 8)
    rw [hst]
    have hup : sg1 ((16 * F + O) / 8) = true := by rw [hsg1, if_pos (by omega)]
    cases tx
    · rw [if_neg (show ¬ md_op (sz, gd, by_, cd, tr, ver, false, sn, ch, oz, og, ob, oc) = true from (by decide : ¬ false = true)), if_neg (show ¬ md_op (sz, gd, by_, cd, tr, ver, false, sn, ch, oz, og, ob, oc) = true from (by decide : ¬ false = true))]
      refine ⟨rfl, ?_⟩
      refine rl_write hl hi ?_
      have hV : ∀ j, j < 112 → cf_vwf home n lp lb sg1 (cf_up sb1 (16 * F + O) y) j = if j = 16 * F + O then y else cf_dvf home n lp lb j := by
        intro j hj
        rw [cf_set_vwf hup]
        by_cases w : j = 16 * F + O
        · rw [if_pos w, if_pos w]
        · rw [if_neg w, if_neg w, hvw, cf_vwf_n (ht rfl _ (by omega))]
      refine ⟨fun j hj => ?_, fun f hf => ?_, ?_, fun f hf hz2 i hi2 => ?_⟩
      · rw [hV j (by omega)]
        by_cases w : j = 16 * F + O
        · rw [if_pos w, w, cf_up_s]
        · rw [if_neg w, cf_up_n _ _ w]; exact hi.1 j hj
      · rw [hV _ (by omega), if_neg (by omega)]; exact hi.2.1 f hf
      · rw [hV _ (by omega), hV _ (by omega), if_neg (by omega), if_neg (by omega)]; exact hi.2.2.1
      · have w : ¬ 16 * f + i = 16 * F + O := by
          intro w
          have : f = F := by omega
          rw [this] at hz2
          omega
        rw [cf_up_n _ _ w]
        exact hi.2.2.2 f hf hz2 i hi2
    · rw [if_pos (show md_op (sz, gd, by_, cd, tr, ver, true, sn, ch, oz, og, ob, oc) = true from rfl), if_pos (show md_op (sz, gd, by_, cd, tr, ver, true, sn, ch, oz, og, ob, oc) = true from rfl)]
      obtain ⟨s12, s13, hsn, hz0⟩ := hs rfl
      refine ⟨rfl, hl, rfl, rfl, rfl, hi, ho, hn, fun w => absurd w (by decide), fun _ => ⟨?_, ?_, fun j hj => ?_, fun f hf hz2 i hi2 => ?_⟩⟩
      · rw [hsg1, if_neg (by omega)]; exact s12
      · rw [hsg1, if_neg (by omega)]; exact s13
      · rw [cf_set_vwf hup]
        by_cases w : j = 16 * F + O
        · rw [if_pos w, w, cf_up_s]
        · rw [if_neg w, cf_up_n _ _ w, hvw]; exact hsn j hj
      · have w : ¬ 16 * f + i = 16 * F + O := by
          intro w
          have : f = F := by omega
          rw [this] at hz2
          omega
        rw [cf_up_n _ _ w]
        exact hz0 f hf hz2 i hi2
theorem pl_code {c : Int32} (h0 : ¬ c < 0) (h1 : c ≤ 9999) : (c &&& 255) + 256 * (c >>> ((8 : Int32) &&& 31)) = c := by
  obtain ⟨k, hk, rfl⟩ := nI_of2 (M := 9999) (n := 9999) rfl h0 h1
  rw [pk_andN (by omega) 8 (by decide), pk_shrN (by omega) _ 8 (by decide), show (256 : Int32) = nI 256 from rfl, pk_mul, nI_add]
  congr 1
  omega
theorem rl_change {u : CFt} {v : MDt} (h : rl u v) (c : Int32) : (cf_change u c).1 = (md_change v c).1 ∧ rl (cf_change u c).2 (md_change v c).2 := by
  have hx := rl_tx h
  unfold cf_change md_change
  rw [hx, rl_ver h]
  by_cases q : c < 0 ∨ 9999 < c
  · rw [if_pos q, if_pos q]; exact ⟨rfl, h⟩
  · rw [if_neg q, if_neg q]
    by_cases q2 : md_ver v = true
    · rw [if_pos q2, if_pos q2]
      by_cases q3 : md_op v = true
      · rw [if_pos q3, if_pos q3]; exact ⟨rfl, h⟩
      · rw [if_neg q3, if_neg q3]
        have hc := pl_code (fun z => q (Or.inl z)) (Int32.not_lt.mp (fun z => q (Or.inr z)))
        obtain ⟨home, n, lp, lb, tr, ver, tx, sg, sb⟩ := u
        obtain ⟨sz, gd, by_, cd, tr2, ver2, op, sn, ch, oz, og, ob, oc⟩ := v
        obtain ⟨hl, e1, e2, e3, hi, ho, hn, ht, hs⟩ := h
        have hop : op = false := Bool.eq_false_iff.mpr q3
        subst e1
        subst e2
        subst e3
        subst hop
        obtain ⟨sg1, sb1, hst, hsg1, hvw⟩ := cf_stage_spec (home, n, lp, lb, tr, ver, false, sg, sb) 13
        rw [hst]
        refine ⟨rfl, ?_⟩
        refine rl_write hl hi ?_
        have hV : ∀ j, j < 112 → cf_vwf home n lp lb sg1 (cf_up (cf_up sb1 104 (c &&& 255)) 105 (c >>> ((8 : Int32) &&& 31))) j = if j = 105 then c >>> ((8 : Int32) &&& 31) else if j = 104 then c &&& 255 else cf_dvf home n lp lb j := by
          intro j hj
          rw [cf_set_vwf (by rw [hsg1, if_pos (by omega)])]
          by_cases w : j = 105
          · rw [if_pos w, if_pos w]
          · rw [if_neg w, if_neg w, cf_set_vwf (by rw [hsg1, if_pos (by omega)])]
            by_cases w2 : j = 104
            · rw [if_pos w2, if_pos w2]
            · rw [if_neg w2, if_neg w2, hvw, cf_vwf_n (ht rfl _ (by omega))]
        refine ⟨fun j hj => ?_, fun f hf => ?_, ?_, hi.2.2.2⟩
        · rw [hV j (by omega), if_neg (by omega), if_neg (by omega)]; exact hi.1 j hj
        · rw [hV _ (by omega), if_neg (by omega), if_neg (by omega)]; exact hi.2.1 f hf
        · rw [hV _ (by omega), hV _ (by omega), if_neg (by omega), if_pos rfl, if_pos rfl]; exact hc
    · rw [if_neg q2, if_neg q2]; exact ⟨rfl, h⟩
theorem rl_new : rl cf_new md_new := by
  refine ⟨⟨by omega, fun _ => (by decide : 0 < 14), fun a b ha => absurd ha (Nat.not_lt_zero a)⟩, rfl, rfl, rfl, ⟨fun j hj => ?_, fun f hf => ⟨(by decide : 0 ≤ 16), ?_⟩, ?_, fun f hf hz i hi => rfl⟩, fun z => absurd z (by decide), fun _ => rfl, fun _ p hp => rfl, fun z => absurd z (by decide)⟩
  · rw [cf_dvf_0, cf_up_n _ _ (by omega), cf_up_n _ _ (by omega)]
  · rw [cf_dvf_0, cf_up_n _ _ (by omega), cf_up_n _ _ (by omega)]
    rfl
  · rw [cf_dvf_0, cf_dvf_0]
    rfl
end
section
/-! THE CONSTRUCTORS -/
set_option maxHeartbeats 400000 in
set_option maxRecDepth 100000 in
/-- the constructor: its arrays are made, the state is the first one -/
theorem mX0_init (l : Launch) (D : va_G) (h0 : Nat) : ∀ sz : Nat, Met l yX0_init (ws_ yX0_init cX0_init 1 none) ({ frames := 1, cells := 5, slots := 364, locals := 12 }) (va_Pc [.ref h0] (pW D [] sz [(h0, .inr (0, [.null, .int 0, .null, .null, .int 0, .int 0, .int 0, .null, .null]))])) (va_Qv (fun x : (Nat → Nat) × ClassId × ClassId => x.1 0 = h0) (fun x t => bW D (tyW x.2.1 x.2.2) (va_A [(h0, .inr (0, [.null, .int 0, .null, .null, .int 0, .int 0, .int 0, .null, .null]))] sz) (wX x.1 x.2.1 x.2.2 cf_new) t) (va_A [(h0, .inr (0, [.null, .int 0, .null, .null, .int 0, .int 0, .int 0, .null, .null]))] sz)) 5 364 (va_A [(h0, .inr (0, [.null, .int 0, .null, .null, .int 0, .int 0, .int 0, .null, .null]))] sz) := by
  refine mc_start (Qk := fun A => va_Qv (fun x : (Nat → Nat) × ClassId × ClassId => x.1 0 = h0) (fun x t => bW D (tyW x.2.1 x.2.2) A (wX x.1 x.2.1 x.2.2 cf_new) t) A) (by decide) (Nat.le_of_ble_eq_true rfl) ?_
  intro p e s m below meth c A hx hb hr hml hown hts hloc hnm hK hP hD hA hS ls hl
  have hown : s.vm.findClass RX0 = some m.cls := hown
  have hl : lv_has ls 1 [(0, .ref h0)] := hl
  refine lv_aload_n hx hb dX0_init_0 rfl (lv_at hl 0 rfl) ?_
  refine W.objInit hx hb hown (hts _ q18) (hts _ q19) (hts _ q20) rfl (by rw [hml]; exact hl.1) rfl dX0_init_1 (Nat.le_of_ble_eq_true rfl) (Nat.le_of_ble_eq_true rfl) ?_
  refine W.eq (g2 := F0 m 4 ls []) rfl ?_
  refine lv_aload_n hx hb dX0_init_4 rfl (lv_at hl 0 rfl) ?_
  refine lv_bipush (v := 112) hx hb dX0_init_5 (by decide) ?_
  refine va_newa (atype := .int) (ty := .int) (n := 112) (N' := 112) (a0 := (112, .inl (fun _ => 0))) hx hb (hts _ q49) rfl hK hP hD hS hA (fun _ => rfl) (by decide) (by decide) (by decide) (Nat.le_of_ble_eq_true rfl) (Nat.le_of_ble_eq_true rfl) dX0_init_7 (fun a1 c1 H hK hP hD hS => ?_)
  refine W.widen (k := 1) (n := 112) (Nat.le_of_ble_eq_true rfl) (Nat.le_of_ble_eq_true rfl) ?_
  have hK : va_K D vwCl [(c1, .int)] s := hK
  have hP : va_P D vwCl [(h0, .inr (0, [.null, .int 0, .null, .null, .int 0, .int 0, .int 0, .null, .null])), (a1, .inl (c1, 112, .inl (fun _ => 0)))] H := hP
  have hD : va_D A [(h0, .inr (0, [.null, .int 0, .null, .null, .int 0, .int 0, .int 0, .null, .null])), (a1, .inl (c1, 112, .inl (fun _ => 0)))] := hD
  refine va_putF (D := D) (ci := 0) (v := .ref a1) (ty := .array .int) (C := RX0) (T := TX0) (N := 9) hx hb hts in_X0 tyX0 tyX0_ok nmX0 hown hK hP hD hS 0 rfl rfl 0 (by decide) (hts _ q21) (fun _ h9 => h9) rfl hnm rfl (by decide +kernel) rfl rfl (Nat.le_of_ble_eq_true rfl) dX0_init_9 (fun H locs hP hD hS => ?_)
  have hP : va_P D vwCl [(h0, .inr (0, [.ref a1, .int 0, .null, .null, .int 0, .int 0, .int 0, .null, .null])), (a1, .inl (c1, 112, .inl (fun _ => 0)))] H := hP
  have hD : va_D A [(h0, .inr (0, [.ref a1, .int 0, .null, .null, .int 0, .int 0, .int 0, .null, .null])), (a1, .inl (c1, 112, .inl (fun _ => 0)))] := hD
  refine lv_aload_n hx hb dX0_init_12 rfl (lv_at hl 0 rfl) ?_
  refine lv_bipush (v := 14) hx hb dX0_init_13 (by decide) ?_
  refine va_newa (atype := .int) (ty := .int) (n := 14) (N' := 14) (a0 := (14, .inl (fun _ => 0))) hx hb (hts _ q49) rfl hK hP hD hS hA (fun _ => rfl) (by decide) (by decide) (by decide) (Nat.le_of_ble_eq_true rfl) (Nat.le_of_ble_eq_true rfl) dX0_init_15 (fun a2 c2 H hK hP hD hS => ?_)
  refine W.widen (k := 2) (n := 126) (Nat.le_of_ble_eq_true rfl) (Nat.le_of_ble_eq_true rfl) ?_
  have hK : va_K D vwCl [(c1, .int), (c2, .int)] s := hK
  have hP : va_P D vwCl [(h0, .inr (0, [.ref a1, .int 0, .null, .null, .int 0, .int 0, .int 0, .null, .null])), (a1, .inl (c1, 112, .inl (fun _ => 0))), (a2, .inl (c2, 14, .inl (fun _ => 0)))] H := hP
  have hD : va_D A [(h0, .inr (0, [.ref a1, .int 0, .null, .null, .int 0, .int 0, .int 0, .null, .null])), (a1, .inl (c1, 112, .inl (fun _ => 0))), (a2, .inl (c2, 14, .inl (fun _ => 0)))] := hD
  refine va_putF (D := D) (ci := 0) (v := .ref a2) (ty := .array .int) (C := RX0) (T := TX0) (N := 9) hx hb hts in_X0 tyX0 tyX0_ok nmX0 hown hK hP hD hS 0 rfl rfl 2 (by decide) (hts _ q23) (fun _ h9 => h9) rfl hnm rfl (by decide +kernel) rfl rfl (Nat.le_of_ble_eq_true rfl) dX0_init_17 (fun H locs hP hD hS => ?_)
  have hP : va_P D vwCl [(h0, .inr (0, [.ref a1, .int 0, .ref a2, .null, .int 0, .int 0, .int 0, .null, .null])), (a1, .inl (c1, 112, .inl (fun _ => 0))), (a2, .inl (c2, 14, .inl (fun _ => 0)))] H := hP
  have hD : va_D A [(h0, .inr (0, [.ref a1, .int 0, .ref a2, .null, .int 0, .int 0, .int 0, .null, .null])), (a1, .inl (c1, 112, .inl (fun _ => 0))), (a2, .inl (c2, 14, .inl (fun _ => 0)))] := hD
  refine lv_aload_n hx hb dX0_init_20 rfl (lv_at hl 0 rfl) ?_
  refine lv_bipush (v := 112) hx hb dX0_init_21 (by decide) ?_
  refine va_newa (atype := .int) (ty := .int) (n := 112) (N' := 112) (a0 := (112, .inl (fun _ => 0))) hx hb (hts _ q49) rfl hK hP hD hS hA (fun _ => rfl) (by decide) (by decide) (by decide) (Nat.le_of_ble_eq_true rfl) (Nat.le_of_ble_eq_true rfl) dX0_init_23 (fun a3 c3 H hK hP hD hS => ?_)
  refine W.widen (k := 3) (n := 238) (Nat.le_of_ble_eq_true rfl) (Nat.le_of_ble_eq_true rfl) ?_
  have hK : va_K D vwCl [(c1, .int), (c2, .int), (c3, .int)] s := hK
  have hP : va_P D vwCl [(h0, .inr (0, [.ref a1, .int 0, .ref a2, .null, .int 0, .int 0, .int 0, .null, .null])), (a1, .inl (c1, 112, .inl (fun _ => 0))), (a2, .inl (c2, 14, .inl (fun _ => 0))), (a3, .inl (c3, 112, .inl (fun _ => 0)))] H := hP
  have hD : va_D A [(h0, .inr (0, [.ref a1, .int 0, .ref a2, .null, .int 0, .int 0, .int 0, .null, .null])), (a1, .inl (c1, 112, .inl (fun _ => 0))), (a2, .inl (c2, 14, .inl (fun _ => 0))), (a3, .inl (c3, 112, .inl (fun _ => 0)))] := hD
  refine va_putF (D := D) (ci := 0) (v := .ref a3) (ty := .array .int) (C := RX0) (T := TX0) (N := 9) hx hb hts in_X0 tyX0 tyX0_ok nmX0 hown hK hP hD hS 0 rfl rfl 3 (by decide) (hts _ q24) (fun _ h9 => h9) rfl hnm rfl (by decide +kernel) rfl rfl (Nat.le_of_ble_eq_true rfl) dX0_init_25 (fun H locs hP hD hS => ?_)
  have hP : va_P D vwCl [(h0, .inr (0, [.ref a1, .int 0, .ref a2, .ref a3, .int 0, .int 0, .int 0, .null, .null])), (a1, .inl (c1, 112, .inl (fun _ => 0))), (a2, .inl (c2, 14, .inl (fun _ => 0))), (a3, .inl (c3, 112, .inl (fun _ => 0)))] H := hP
  have hD : va_D A [(h0, .inr (0, [.ref a1, .int 0, .ref a2, .ref a3, .int 0, .int 0, .int 0, .null, .null])), (a1, .inl (c1, 112, .inl (fun _ => 0))), (a2, .inl (c2, 14, .inl (fun _ => 0))), (a3, .inl (c3, 112, .inl (fun _ => 0)))] := hD
  refine lv_aload_n hx hb dX0_init_28 rfl (lv_at hl 0 rfl) ?_
  refine lv_bipush (v := 14) hx hb dX0_init_29 (by decide) ?_
  refine va_newa (atype := .boolean) (ty := .boolean) (n := 14) (N' := 14) (a0 := (14, .inl (fun _ => 0))) hx hb (hts _ q50) rfl hK hP hD hS hA (fun _ => rfl) (by decide) (by decide) (by decide) (Nat.le_of_ble_eq_true rfl) (Nat.le_of_ble_eq_true rfl) dX0_init_31 (fun a4 c4 H hK hP hD hS => ?_)
  refine W.widen (k := 4) (n := 252) (Nat.le_of_ble_eq_true rfl) (Nat.le_of_ble_eq_true rfl) ?_
  have hK : va_K D vwCl [(c1, .int), (c2, .int), (c3, .int), (c4, .boolean)] s := hK
  have hP : va_P D vwCl [(h0, .inr (0, [.ref a1, .int 0, .ref a2, .ref a3, .int 0, .int 0, .int 0, .null, .null])), (a1, .inl (c1, 112, .inl (fun _ => 0))), (a2, .inl (c2, 14, .inl (fun _ => 0))), (a3, .inl (c3, 112, .inl (fun _ => 0))), (a4, .inl (c4, 14, .inl (fun _ => 0)))] H := hP
  have hD : va_D A [(h0, .inr (0, [.ref a1, .int 0, .ref a2, .ref a3, .int 0, .int 0, .int 0, .null, .null])), (a1, .inl (c1, 112, .inl (fun _ => 0))), (a2, .inl (c2, 14, .inl (fun _ => 0))), (a3, .inl (c3, 112, .inl (fun _ => 0))), (a4, .inl (c4, 14, .inl (fun _ => 0)))] := hD
  refine va_putF (D := D) (ci := 0) (v := .ref a4) (ty := .array .boolean) (C := RX0) (T := TX0) (N := 9) hx hb hts in_X0 tyX0 tyX0_ok nmX0 hown hK hP hD hS 0 rfl rfl 7 (by decide) (hts _ q28) (fun _ h9 => h9) rfl hnm rfl (by decide +kernel) rfl rfl (Nat.le_of_ble_eq_true rfl) dX0_init_33 (fun H locs hP hD hS => ?_)
  have hP : va_P D vwCl [(h0, .inr (0, [.ref a1, .int 0, .ref a2, .ref a3, .int 0, .int 0, .int 0, .ref a4, .null])), (a1, .inl (c1, 112, .inl (fun _ => 0))), (a2, .inl (c2, 14, .inl (fun _ => 0))), (a3, .inl (c3, 112, .inl (fun _ => 0))), (a4, .inl (c4, 14, .inl (fun _ => 0)))] H := hP
  have hD : va_D A [(h0, .inr (0, [.ref a1, .int 0, .ref a2, .ref a3, .int 0, .int 0, .int 0, .ref a4, .null])), (a1, .inl (c1, 112, .inl (fun _ => 0))), (a2, .inl (c2, 14, .inl (fun _ => 0))), (a3, .inl (c3, 112, .inl (fun _ => 0))), (a4, .inl (c4, 14, .inl (fun _ => 0)))] := hD
  refine lv_aload_n hx hb dX0_init_36 rfl (lv_at hl 0 rfl) ?_
  refine lv_bipush (v := 112) hx hb dX0_init_37 (by decide) ?_
  refine va_newa (atype := .int) (ty := .int) (n := 112) (N' := 112) (a0 := (112, .inl (fun _ => 0))) hx hb (hts _ q49) rfl hK hP hD hS hA (fun _ => rfl) (by decide) (by decide) (by decide) (Nat.le_of_ble_eq_true rfl) (Nat.le_of_ble_eq_true rfl) dX0_init_39 (fun a5 c5 H hK hP hD hS => ?_)
  refine W.widen (k := 5) (n := 364) (Nat.le_of_ble_eq_true rfl) (Nat.le_of_ble_eq_true rfl) ?_
  have hK : va_K D vwCl [(c1, .int), (c2, .int), (c3, .int), (c4, .boolean), (c5, .int)] s := hK
  have hP : va_P D vwCl [(h0, .inr (0, [.ref a1, .int 0, .ref a2, .ref a3, .int 0, .int 0, .int 0, .ref a4, .null])), (a1, .inl (c1, 112, .inl (fun _ => 0))), (a2, .inl (c2, 14, .inl (fun _ => 0))), (a3, .inl (c3, 112, .inl (fun _ => 0))), (a4, .inl (c4, 14, .inl (fun _ => 0))), (a5, .inl (c5, 112, .inl (fun _ => 0)))] H := hP
  have hD : va_D A [(h0, .inr (0, [.ref a1, .int 0, .ref a2, .ref a3, .int 0, .int 0, .int 0, .ref a4, .null])), (a1, .inl (c1, 112, .inl (fun _ => 0))), (a2, .inl (c2, 14, .inl (fun _ => 0))), (a3, .inl (c3, 112, .inl (fun _ => 0))), (a4, .inl (c4, 14, .inl (fun _ => 0))), (a5, .inl (c5, 112, .inl (fun _ => 0)))] := hD
  refine va_putF (D := D) (ci := 0) (v := .ref a5) (ty := .array .int) (C := RX0) (T := TX0) (N := 9) hx hb hts in_X0 tyX0 tyX0_ok nmX0 hown hK hP hD hS 0 rfl rfl 8 (by decide) (hts _ q29) (fun _ h9 => h9) rfl hnm rfl (by decide +kernel) rfl rfl (Nat.le_of_ble_eq_true rfl) dX0_init_41 (fun H locs hP hD hS => ?_)
  have hP : va_P D vwCl [(h0, .inr (0, [.ref a1, .int 0, .ref a2, .ref a3, .int 0, .int 0, .int 0, .ref a4, .ref a5])), (a1, .inl (c1, 112, .inl (fun _ => 0))), (a2, .inl (c2, 14, .inl (fun _ => 0))), (a3, .inl (c3, 112, .inl (fun _ => 0))), (a4, .inl (c4, 14, .inl (fun _ => 0))), (a5, .inl (c5, 112, .inl (fun _ => 0)))] H := hP
  have hD : va_D A [(h0, .inr (0, [.ref a1, .int 0, .ref a2, .ref a3, .int 0, .int 0, .int 0, .ref a4, .ref a5])), (a1, .inl (c1, 112, .inl (fun _ => 0))), (a2, .inl (c2, 14, .inl (fun _ => 0))), (a3, .inl (c3, 112, .inl (fun _ => 0))), (a4, .inl (c4, 14, .inl (fun _ => 0))), (a5, .inl (c5, 112, .inl (fun _ => 0)))] := hD
  refine lv_aload_n hx hb dX0_init_44 rfl (lv_at hl 0 rfl) ?_
  refine lv_iconst (v := 3) hx hb dX0_init_45 (by decide) ?_
  refine va_put (D := D) (ci := 0) (v := .int 3) (ty := .int) (C := RX0) (T := TX0) (N := 9) hx hb hts in_X0 tyX0 tyX0_ok nmX0 hown hK hP hD hS 0 rfl rfl 4 (by decide) (hts _ q25) (fun _ h9 => h9) rfl (by decide +kernel) rfl rfl (Nat.le_of_ble_eq_true rfl) dX0_init_46 (fun H locs hP hD hS => ?_)
  have hP : va_P D vwCl [(h0, .inr (0, [.ref a1, .int 0, .ref a2, .ref a3, .int 3, .int 0, .int 0, .ref a4, .ref a5])), (a1, .inl (c1, 112, .inl (fun _ => 0))), (a2, .inl (c2, 14, .inl (fun _ => 0))), (a3, .inl (c3, 112, .inl (fun _ => 0))), (a4, .inl (c4, 14, .inl (fun _ => 0))), (a5, .inl (c5, 112, .inl (fun _ => 0)))] H := hP
  have hD : va_D A [(h0, .inr (0, [.ref a1, .int 0, .ref a2, .ref a3, .int 3, .int 0, .int 0, .ref a4, .ref a5])), (a1, .inl (c1, 112, .inl (fun _ => 0))), (a2, .inl (c2, 14, .inl (fun _ => 0))), (a3, .inl (c3, 112, .inl (fun _ => 0))), (a4, .inl (c4, 14, .inl (fun _ => 0))), (a5, .inl (c5, 112, .inl (fun _ => 0)))] := hD
  refine lv_aload_n hx hb dX0_init_49 rfl (lv_at hl 0 rfl) ?_
  refine va_get (D := D) (ci := 0) (v := .ref a1) (C := RX0) (T := TX0) (N := 9) hx hb hts in_X0 hown hK hP 0 rfl rfl 0 (by decide) (hts _ q21) (fun _ h9 => h9) rfl dX0_init_50 ?_
  refine lv_bipush (v := nI 104) hx hb dX0_init_53 (by rfl) ?_
  refine lv_sipush (v := 210) hx hb dX0_init_55 (by decide) ?_
  refine na_iast (f := (fun _ => 0)) (g := (cf_up (fun _ => 0) 104 210)) (x := 210) hx hb hK hP hD hS 1 0 rfl rfl (j := 104) (by decide) (by decide) rfl dX0_init_58 (fun H locs hP hD hS => ?_)
  have hP : va_P D vwCl [(h0, .inr (0, [.ref a1, .int 0, .ref a2, .ref a3, .int 3, .int 0, .int 0, .ref a4, .ref a5])), (a1, .inl (c1, 112, .inl (cf_up (fun _ => 0) 104 210))), (a2, .inl (c2, 14, .inl (fun _ => 0))), (a3, .inl (c3, 112, .inl (fun _ => 0))), (a4, .inl (c4, 14, .inl (fun _ => 0))), (a5, .inl (c5, 112, .inl (fun _ => 0)))] H := hP
  have hD : va_D A [(h0, .inr (0, [.ref a1, .int 0, .ref a2, .ref a3, .int 3, .int 0, .int 0, .ref a4, .ref a5])), (a1, .inl (c1, 112, .inl (cf_up (fun _ => 0) 104 210))), (a2, .inl (c2, 14, .inl (fun _ => 0))), (a3, .inl (c3, 112, .inl (fun _ => 0))), (a4, .inl (c4, 14, .inl (fun _ => 0))), (a5, .inl (c5, 112, .inl (fun _ => 0)))] := hD
  refine lv_aload_n hx hb dX0_init_59 rfl (lv_at hl 0 rfl) ?_
  refine va_get (D := D) (ci := 0) (v := .ref a1) (C := RX0) (T := TX0) (N := 9) hx hb hts in_X0 hown hK hP 0 rfl rfl 0 (by decide) (hts _ q21) (fun _ h9 => h9) rfl dX0_init_60 ?_
  refine lv_bipush (v := nI 105) hx hb dX0_init_63 (by rfl) ?_
  refine lv_iconst (v := 4) hx hb dX0_init_65 (by decide) ?_
  refine na_iast (f := (cf_up (fun _ => 0) 104 210)) (g := (cf_up (cf_up (fun _ => 0) 104 210) 105 4)) (x := 4) hx hb hK hP hD hS 1 0 rfl rfl (j := 105) (by decide) (by decide) rfl dX0_init_66 (fun H locs hP hD hS => ?_)
  have hP : va_P D vwCl [(h0, .inr (0, [.ref a1, .int 0, .ref a2, .ref a3, .int 3, .int 0, .int 0, .ref a4, .ref a5])), (a1, .inl (c1, 112, .inl (cf_up (cf_up (fun _ => 0) 104 210) 105 4))), (a2, .inl (c2, 14, .inl (fun _ => 0))), (a3, .inl (c3, 112, .inl (fun _ => 0))), (a4, .inl (c4, 14, .inl (fun _ => 0))), (a5, .inl (c5, 112, .inl (fun _ => 0)))] H := hP
  have hD : va_D A [(h0, .inr (0, [.ref a1, .int 0, .ref a2, .ref a3, .int 3, .int 0, .int 0, .ref a4, .ref a5])), (a1, .inl (c1, 112, .inl (cf_up (cf_up (fun _ => 0) 104 210) 105 4))), (a2, .inl (c2, 14, .inl (fun _ => 0))), (a3, .inl (c3, 112, .inl (fun _ => 0))), (a4, .inl (c4, 14, .inl (fun _ => 0))), (a5, .inl (c5, 112, .inl (fun _ => 0)))] := hD
  have e2 : c1 = c2 := Option.some.inj ((show s.vm.findClass _ = some c1 from (hK.2 0 _ rfl).2).symm.trans (show s.vm.findClass _ = some c2 from (hK.2 1 _ rfl).2))
  subst e2
  have e3 : c1 = c3 := Option.some.inj ((show s.vm.findClass _ = some c1 from (hK.2 0 _ rfl).2).symm.trans (show s.vm.findClass _ = some c3 from (hK.2 2 _ rfl).2))
  subst e3
  have e5 : c1 = c5 := Option.some.inj ((show s.vm.findClass _ = some c1 from (hK.2 0 _ rfl).2).symm.trans (show s.vm.findClass _ = some c5 from (hK.2 4 _ rfl).2))
  subst e5
  have hK9 : va_K D vwCl (tyW c1 c4) s := hK.sub [0, 3] rfl
  have hP9 : va_P D vwCl (wX (fun k => match k with | 0 => h0 | 1 => a1 | 2 => a2 | 3 => a3 | 4 => a4 | _ => a5 : Nat → Nat) c1 c4 cf_new) H := hP
  have hD9 : va_D A (wX (fun k => match k with | 0 => h0 | 1 => a1 | 2 => a2 | 3 => a3 | 4 => a4 | _ => a5 : Nat → Nat) c1 c4 cf_new) := hD
  exact W.vret hx hb hr (fun t ht hW => ⟨⟨((fun k => match k with | 0 => h0 | 1 => a1 | 2 => a2 | 3 => a3 | 4 => a4 | _ => a5 : Nat → Nat), c1, c4), rfl, rfl, by rw [ht]; exact hP9, va_K.moved hW.alike hK9, hD9⟩, hS.F ht⟩) hS.2.2 dX0_init_67 hloc
set_option maxHeartbeats 400000 in
set_option maxRecDepth 100000 in
/-- the constructor: its arrays are made, the state is the first one -/
theorem mX1_init (l : Launch) (D : va_G) (h0 : Nat) : ∀ sz : Nat, Met l yX1_init (ws_ yX1_init cX1_init 1 none) ({ frames := 1, cells := 7, slots := 312, locals := 12 }) (va_Pc [.ref h0] (pW D [] sz [(h0, .inr (1, [.null, .null, .null, .int 0, .int 0, .int 0, .int 0, .null, .int 0, .null, .null, .null, .int 0]))])) (va_Qv (fun x : (Nat → Nat) × ClassId × ClassId => x.1 0 = h0) (fun x t => bW D (tyW x.2.1 x.2.2) (va_A [(h0, .inr (1, [.null, .null, .null, .int 0, .int 0, .int 0, .int 0, .null, .int 0, .null, .null, .null, .int 0]))] sz) (wM x.1 x.2.1 x.2.2 md_new) t) (va_A [(h0, .inr (1, [.null, .null, .null, .int 0, .int 0, .int 0, .int 0, .null, .int 0, .null, .null, .null, .int 0]))] sz)) 7 312 (va_A [(h0, .inr (1, [.null, .null, .null, .int 0, .int 0, .int 0, .int 0, .null, .int 0, .null, .null, .null, .int 0]))] sz) := by
  refine mc_start (Qk := fun A => va_Qv (fun x : (Nat → Nat) × ClassId × ClassId => x.1 0 = h0) (fun x t => bW D (tyW x.2.1 x.2.2) A (wM x.1 x.2.1 x.2.2 md_new) t) A) (by decide) (Nat.le_of_ble_eq_true rfl) ?_
  intro p e s m below meth c A hx hb hr hml hown hts hloc hnm hK hP hD hA hS ls hl
  have hown : s.vm.findClass RX1 = some m.cls := hown
  have hl : lv_has ls 1 [(0, .ref h0)] := hl
  refine lv_aload_n hx hb dX1_init_0 rfl (lv_at hl 0 rfl) ?_
  refine W.objInit hx hb hown (hts _ q137) (hts _ q19) (hts _ q20) rfl (by rw [hml]; exact hl.1) rfl dX1_init_1 (Nat.le_of_ble_eq_true rfl) (Nat.le_of_ble_eq_true rfl) ?_
  refine W.eq (g2 := F0 m 4 ls []) rfl ?_
  refine lv_aload_n hx hb dX1_init_4 rfl (lv_at hl 0 rfl) ?_
  refine lv_bipush (v := 6) hx hb dX1_init_5 (by decide) ?_
  refine va_newa (atype := .int) (ty := .int) (n := 6) (N' := 6) (a0 := (6, .inl (fun _ => 0))) hx hb (hts _ q49) rfl hK hP hD hS hA (fun _ => rfl) (by decide) (by decide) (by decide) (Nat.le_of_ble_eq_true rfl) (Nat.le_of_ble_eq_true rfl) dX1_init_7 (fun a1 c1 H hK hP hD hS => ?_)
  refine W.widen (k := 1) (n := 6) (Nat.le_of_ble_eq_true rfl) (Nat.le_of_ble_eq_true rfl) ?_
  have hK : va_K D vwCl [(c1, .int)] s := hK
  have hP : va_P D vwCl [(h0, .inr (1, [.null, .null, .null, .int 0, .int 0, .int 0, .int 0, .null, .int 0, .null, .null, .null, .int 0])), (a1, .inl (c1, 6, .inl (fun _ => 0)))] H := hP
  have hD : va_D A [(h0, .inr (1, [.null, .null, .null, .int 0, .int 0, .int 0, .int 0, .null, .int 0, .null, .null, .null, .int 0])), (a1, .inl (c1, 6, .inl (fun _ => 0)))] := hD
  refine va_putF (D := D) (ci := 1) (v := .ref a1) (ty := .array .int) (C := RX1) (T := TX1) (N := 13) hx hb hts in_X1 tyX1 tyX1_ok nmX1 hown hK hP hD hS 0 rfl rfl 0 (by decide) (hts _ q138) (fun _ h9 => h9) rfl hnm rfl (by decide +kernel) rfl rfl (Nat.le_of_ble_eq_true rfl) dX1_init_9 (fun H locs hP hD hS => ?_)
  have hP : va_P D vwCl [(h0, .inr (1, [.ref a1, .null, .null, .int 0, .int 0, .int 0, .int 0, .null, .int 0, .null, .null, .null, .int 0])), (a1, .inl (c1, 6, .inl (fun _ => 0)))] H := hP
  have hD : va_D A [(h0, .inr (1, [.ref a1, .null, .null, .int 0, .int 0, .int 0, .int 0, .null, .int 0, .null, .null, .null, .int 0])), (a1, .inl (c1, 6, .inl (fun _ => 0)))] := hD
  refine lv_aload_n hx hb dX1_init_12 rfl (lv_at hl 0 rfl) ?_
  refine lv_bipush (v := 6) hx hb dX1_init_13 (by decide) ?_
  refine va_newa (atype := .boolean) (ty := .boolean) (n := 6) (N' := 6) (a0 := (6, .inl (fun _ => 0))) hx hb (hts _ q50) rfl hK hP hD hS hA (fun _ => rfl) (by decide) (by decide) (by decide) (Nat.le_of_ble_eq_true rfl) (Nat.le_of_ble_eq_true rfl) dX1_init_15 (fun a2 c2 H hK hP hD hS => ?_)
  refine W.widen (k := 2) (n := 12) (Nat.le_of_ble_eq_true rfl) (Nat.le_of_ble_eq_true rfl) ?_
  have hK : va_K D vwCl [(c1, .int), (c2, .boolean)] s := hK
  have hP : va_P D vwCl [(h0, .inr (1, [.ref a1, .null, .null, .int 0, .int 0, .int 0, .int 0, .null, .int 0, .null, .null, .null, .int 0])), (a1, .inl (c1, 6, .inl (fun _ => 0))), (a2, .inl (c2, 6, .inl (fun _ => 0)))] H := hP
  have hD : va_D A [(h0, .inr (1, [.ref a1, .null, .null, .int 0, .int 0, .int 0, .int 0, .null, .int 0, .null, .null, .null, .int 0])), (a1, .inl (c1, 6, .inl (fun _ => 0))), (a2, .inl (c2, 6, .inl (fun _ => 0)))] := hD
  refine va_putF (D := D) (ci := 1) (v := .ref a2) (ty := .array .boolean) (C := RX1) (T := TX1) (N := 13) hx hb hts in_X1 tyX1 tyX1_ok nmX1 hown hK hP hD hS 0 rfl rfl 1 (by decide) (hts _ q139) (fun _ h9 => h9) rfl hnm rfl (by decide +kernel) rfl rfl (Nat.le_of_ble_eq_true rfl) dX1_init_17 (fun H locs hP hD hS => ?_)
  have hP : va_P D vwCl [(h0, .inr (1, [.ref a1, .ref a2, .null, .int 0, .int 0, .int 0, .int 0, .null, .int 0, .null, .null, .null, .int 0])), (a1, .inl (c1, 6, .inl (fun _ => 0))), (a2, .inl (c2, 6, .inl (fun _ => 0)))] H := hP
  have hD : va_D A [(h0, .inr (1, [.ref a1, .ref a2, .null, .int 0, .int 0, .int 0, .int 0, .null, .int 0, .null, .null, .null, .int 0])), (a1, .inl (c1, 6, .inl (fun _ => 0))), (a2, .inl (c2, 6, .inl (fun _ => 0)))] := hD
  refine lv_aload_n hx hb dX1_init_20 rfl (lv_at hl 0 rfl) ?_
  refine lv_bipush (v := 96) hx hb dX1_init_21 (by decide) ?_
  refine va_newa (atype := .int) (ty := .int) (n := 96) (N' := 96) (a0 := (96, .inl (fun _ => 0))) hx hb (hts _ q49) rfl hK hP hD hS hA (fun _ => rfl) (by decide) (by decide) (by decide) (Nat.le_of_ble_eq_true rfl) (Nat.le_of_ble_eq_true rfl) dX1_init_23 (fun a3 c3 H hK hP hD hS => ?_)
  refine W.widen (k := 3) (n := 108) (Nat.le_of_ble_eq_true rfl) (Nat.le_of_ble_eq_true rfl) ?_
  have hK : va_K D vwCl [(c1, .int), (c2, .boolean), (c3, .int)] s := hK
  have hP : va_P D vwCl [(h0, .inr (1, [.ref a1, .ref a2, .null, .int 0, .int 0, .int 0, .int 0, .null, .int 0, .null, .null, .null, .int 0])), (a1, .inl (c1, 6, .inl (fun _ => 0))), (a2, .inl (c2, 6, .inl (fun _ => 0))), (a3, .inl (c3, 96, .inl (fun _ => 0)))] H := hP
  have hD : va_D A [(h0, .inr (1, [.ref a1, .ref a2, .null, .int 0, .int 0, .int 0, .int 0, .null, .int 0, .null, .null, .null, .int 0])), (a1, .inl (c1, 6, .inl (fun _ => 0))), (a2, .inl (c2, 6, .inl (fun _ => 0))), (a3, .inl (c3, 96, .inl (fun _ => 0)))] := hD
  refine va_putF (D := D) (ci := 1) (v := .ref a3) (ty := .array .int) (C := RX1) (T := TX1) (N := 13) hx hb hts in_X1 tyX1 tyX1_ok nmX1 hown hK hP hD hS 0 rfl rfl 2 (by decide) (hts _ q140) (fun _ h9 => h9) rfl hnm rfl (by decide +kernel) rfl rfl (Nat.le_of_ble_eq_true rfl) dX1_init_25 (fun H locs hP hD hS => ?_)
  have hP : va_P D vwCl [(h0, .inr (1, [.ref a1, .ref a2, .ref a3, .int 0, .int 0, .int 0, .int 0, .null, .int 0, .null, .null, .null, .int 0])), (a1, .inl (c1, 6, .inl (fun _ => 0))), (a2, .inl (c2, 6, .inl (fun _ => 0))), (a3, .inl (c3, 96, .inl (fun _ => 0)))] H := hP
  have hD : va_D A [(h0, .inr (1, [.ref a1, .ref a2, .ref a3, .int 0, .int 0, .int 0, .int 0, .null, .int 0, .null, .null, .null, .int 0])), (a1, .inl (c1, 6, .inl (fun _ => 0))), (a2, .inl (c2, 6, .inl (fun _ => 0))), (a3, .inl (c3, 96, .inl (fun _ => 0)))] := hD
  refine lv_aload_n hx hb dX1_init_28 rfl (lv_at hl 0 rfl) ?_
  refine lv_sipush (v := 1234) hx hb dX1_init_29 (by decide) ?_
  refine va_put (D := D) (ci := 1) (v := .int 1234) (ty := .int) (C := RX1) (T := TX1) (N := 13) hx hb hts in_X1 tyX1 tyX1_ok nmX1 hown hK hP hD hS 0 rfl rfl 3 (by decide) (hts _ q141) (fun _ h9 => h9) rfl (by decide +kernel) rfl rfl (Nat.le_of_ble_eq_true rfl) dX1_init_32 (fun H locs hP hD hS => ?_)
  have hP : va_P D vwCl [(h0, .inr (1, [.ref a1, .ref a2, .ref a3, .int 1234, .int 0, .int 0, .int 0, .null, .int 0, .null, .null, .null, .int 0])), (a1, .inl (c1, 6, .inl (fun _ => 0))), (a2, .inl (c2, 6, .inl (fun _ => 0))), (a3, .inl (c3, 96, .inl (fun _ => 0)))] H := hP
  have hD : va_D A [(h0, .inr (1, [.ref a1, .ref a2, .ref a3, .int 1234, .int 0, .int 0, .int 0, .null, .int 0, .null, .null, .null, .int 0])), (a1, .inl (c1, 6, .inl (fun _ => 0))), (a2, .inl (c2, 6, .inl (fun _ => 0))), (a3, .inl (c3, 96, .inl (fun _ => 0)))] := hD
  refine lv_aload_n hx hb dX1_init_35 rfl (lv_at hl 0 rfl) ?_
  refine lv_iconst (v := 3) hx hb dX1_init_36 (by decide) ?_
  refine va_put (D := D) (ci := 1) (v := .int 3) (ty := .int) (C := RX1) (T := TX1) (N := 13) hx hb hts in_X1 tyX1 tyX1_ok nmX1 hown hK hP hD hS 0 rfl rfl 4 (by decide) (hts _ q142) (fun _ h9 => h9) rfl (by decide +kernel) rfl rfl (Nat.le_of_ble_eq_true rfl) dX1_init_37 (fun H locs hP hD hS => ?_)
  have hP : va_P D vwCl [(h0, .inr (1, [.ref a1, .ref a2, .ref a3, .int 1234, .int 3, .int 0, .int 0, .null, .int 0, .null, .null, .null, .int 0])), (a1, .inl (c1, 6, .inl (fun _ => 0))), (a2, .inl (c2, 6, .inl (fun _ => 0))), (a3, .inl (c3, 96, .inl (fun _ => 0)))] H := hP
  have hD : va_D A [(h0, .inr (1, [.ref a1, .ref a2, .ref a3, .int 1234, .int 3, .int 0, .int 0, .null, .int 0, .null, .null, .null, .int 0])), (a1, .inl (c1, 6, .inl (fun _ => 0))), (a2, .inl (c2, 6, .inl (fun _ => 0))), (a3, .inl (c3, 96, .inl (fun _ => 0)))] := hD
  refine lv_aload_n hx hb dX1_init_40 rfl (lv_at hl 0 rfl) ?_
  refine lv_bipush (v := 96) hx hb dX1_init_41 (by decide) ?_
  refine va_newa (atype := .int) (ty := .int) (n := 96) (N' := 96) (a0 := (96, .inl (fun _ => 0))) hx hb (hts _ q49) rfl hK hP hD hS hA (fun _ => rfl) (by decide) (by decide) (by decide) (Nat.le_of_ble_eq_true rfl) (Nat.le_of_ble_eq_true rfl) dX1_init_43 (fun a4 c4 H hK hP hD hS => ?_)
  refine W.widen (k := 4) (n := 204) (Nat.le_of_ble_eq_true rfl) (Nat.le_of_ble_eq_true rfl) ?_
  have hK : va_K D vwCl [(c1, .int), (c2, .boolean), (c3, .int), (c4, .int)] s := hK
  have hP : va_P D vwCl [(h0, .inr (1, [.ref a1, .ref a2, .ref a3, .int 1234, .int 3, .int 0, .int 0, .null, .int 0, .null, .null, .null, .int 0])), (a1, .inl (c1, 6, .inl (fun _ => 0))), (a2, .inl (c2, 6, .inl (fun _ => 0))), (a3, .inl (c3, 96, .inl (fun _ => 0))), (a4, .inl (c4, 96, .inl (fun _ => 0)))] H := hP
  have hD : va_D A [(h0, .inr (1, [.ref a1, .ref a2, .ref a3, .int 1234, .int 3, .int 0, .int 0, .null, .int 0, .null, .null, .null, .int 0])), (a1, .inl (c1, 6, .inl (fun _ => 0))), (a2, .inl (c2, 6, .inl (fun _ => 0))), (a3, .inl (c3, 96, .inl (fun _ => 0))), (a4, .inl (c4, 96, .inl (fun _ => 0)))] := hD
  refine va_putF (D := D) (ci := 1) (v := .ref a4) (ty := .array .int) (C := RX1) (T := TX1) (N := 13) hx hb hts in_X1 tyX1 tyX1_ok nmX1 hown hK hP hD hS 0 rfl rfl 7 (by decide) (hts _ q145) (fun _ h9 => h9) rfl hnm rfl (by decide +kernel) rfl rfl (Nat.le_of_ble_eq_true rfl) dX1_init_45 (fun H locs hP hD hS => ?_)
  have hP : va_P D vwCl [(h0, .inr (1, [.ref a1, .ref a2, .ref a3, .int 1234, .int 3, .int 0, .int 0, .ref a4, .int 0, .null, .null, .null, .int 0])), (a1, .inl (c1, 6, .inl (fun _ => 0))), (a2, .inl (c2, 6, .inl (fun _ => 0))), (a3, .inl (c3, 96, .inl (fun _ => 0))), (a4, .inl (c4, 96, .inl (fun _ => 0)))] H := hP
  have hD : va_D A [(h0, .inr (1, [.ref a1, .ref a2, .ref a3, .int 1234, .int 3, .int 0, .int 0, .ref a4, .int 0, .null, .null, .null, .int 0])), (a1, .inl (c1, 6, .inl (fun _ => 0))), (a2, .inl (c2, 6, .inl (fun _ => 0))), (a3, .inl (c3, 96, .inl (fun _ => 0))), (a4, .inl (c4, 96, .inl (fun _ => 0)))] := hD
  refine lv_aload_n hx hb dX1_init_48 rfl (lv_at hl 0 rfl) ?_
  refine lv_bipush (v := 6) hx hb dX1_init_49 (by decide) ?_
  refine va_newa (atype := .int) (ty := .int) (n := 6) (N' := 6) (a0 := (6, .inl (fun _ => 0))) hx hb (hts _ q49) rfl hK hP hD hS hA (fun _ => rfl) (by decide) (by decide) (by decide) (Nat.le_of_ble_eq_true rfl) (Nat.le_of_ble_eq_true rfl) dX1_init_51 (fun a5 c5 H hK hP hD hS => ?_)
  refine W.widen (k := 5) (n := 210) (Nat.le_of_ble_eq_true rfl) (Nat.le_of_ble_eq_true rfl) ?_
  have hK : va_K D vwCl [(c1, .int), (c2, .boolean), (c3, .int), (c4, .int), (c5, .int)] s := hK
  have hP : va_P D vwCl [(h0, .inr (1, [.ref a1, .ref a2, .ref a3, .int 1234, .int 3, .int 0, .int 0, .ref a4, .int 0, .null, .null, .null, .int 0])), (a1, .inl (c1, 6, .inl (fun _ => 0))), (a2, .inl (c2, 6, .inl (fun _ => 0))), (a3, .inl (c3, 96, .inl (fun _ => 0))), (a4, .inl (c4, 96, .inl (fun _ => 0))), (a5, .inl (c5, 6, .inl (fun _ => 0)))] H := hP
  have hD : va_D A [(h0, .inr (1, [.ref a1, .ref a2, .ref a3, .int 1234, .int 3, .int 0, .int 0, .ref a4, .int 0, .null, .null, .null, .int 0])), (a1, .inl (c1, 6, .inl (fun _ => 0))), (a2, .inl (c2, 6, .inl (fun _ => 0))), (a3, .inl (c3, 96, .inl (fun _ => 0))), (a4, .inl (c4, 96, .inl (fun _ => 0))), (a5, .inl (c5, 6, .inl (fun _ => 0)))] := hD
  refine va_putF (D := D) (ci := 1) (v := .ref a5) (ty := .array .int) (C := RX1) (T := TX1) (N := 13) hx hb hts in_X1 tyX1 tyX1_ok nmX1 hown hK hP hD hS 0 rfl rfl 9 (by decide) (hts _ q147) (fun _ h9 => h9) rfl hnm rfl (by decide +kernel) rfl rfl (Nat.le_of_ble_eq_true rfl) dX1_init_53 (fun H locs hP hD hS => ?_)
  have hP : va_P D vwCl [(h0, .inr (1, [.ref a1, .ref a2, .ref a3, .int 1234, .int 3, .int 0, .int 0, .ref a4, .int 0, .ref a5, .null, .null, .int 0])), (a1, .inl (c1, 6, .inl (fun _ => 0))), (a2, .inl (c2, 6, .inl (fun _ => 0))), (a3, .inl (c3, 96, .inl (fun _ => 0))), (a4, .inl (c4, 96, .inl (fun _ => 0))), (a5, .inl (c5, 6, .inl (fun _ => 0)))] H := hP
  have hD : va_D A [(h0, .inr (1, [.ref a1, .ref a2, .ref a3, .int 1234, .int 3, .int 0, .int 0, .ref a4, .int 0, .ref a5, .null, .null, .int 0])), (a1, .inl (c1, 6, .inl (fun _ => 0))), (a2, .inl (c2, 6, .inl (fun _ => 0))), (a3, .inl (c3, 96, .inl (fun _ => 0))), (a4, .inl (c4, 96, .inl (fun _ => 0))), (a5, .inl (c5, 6, .inl (fun _ => 0)))] := hD
  refine lv_aload_n hx hb dX1_init_56 rfl (lv_at hl 0 rfl) ?_
  refine lv_bipush (v := 6) hx hb dX1_init_57 (by decide) ?_
  refine va_newa (atype := .boolean) (ty := .boolean) (n := 6) (N' := 6) (a0 := (6, .inl (fun _ => 0))) hx hb (hts _ q50) rfl hK hP hD hS hA (fun _ => rfl) (by decide) (by decide) (by decide) (Nat.le_of_ble_eq_true rfl) (Nat.le_of_ble_eq_true rfl) dX1_init_59 (fun a6 c6 H hK hP hD hS => ?_)
  refine W.widen (k := 6) (n := 216) (Nat.le_of_ble_eq_true rfl) (Nat.le_of_ble_eq_true rfl) ?_
  have hK : va_K D vwCl [(c1, .int), (c2, .boolean), (c3, .int), (c4, .int), (c5, .int), (c6, .boolean)] s := hK
  have hP : va_P D vwCl [(h0, .inr (1, [.ref a1, .ref a2, .ref a3, .int 1234, .int 3, .int 0, .int 0, .ref a4, .int 0, .ref a5, .null, .null, .int 0])), (a1, .inl (c1, 6, .inl (fun _ => 0))), (a2, .inl (c2, 6, .inl (fun _ => 0))), (a3, .inl (c3, 96, .inl (fun _ => 0))), (a4, .inl (c4, 96, .inl (fun _ => 0))), (a5, .inl (c5, 6, .inl (fun _ => 0))), (a6, .inl (c6, 6, .inl (fun _ => 0)))] H := hP
  have hD : va_D A [(h0, .inr (1, [.ref a1, .ref a2, .ref a3, .int 1234, .int 3, .int 0, .int 0, .ref a4, .int 0, .ref a5, .null, .null, .int 0])), (a1, .inl (c1, 6, .inl (fun _ => 0))), (a2, .inl (c2, 6, .inl (fun _ => 0))), (a3, .inl (c3, 96, .inl (fun _ => 0))), (a4, .inl (c4, 96, .inl (fun _ => 0))), (a5, .inl (c5, 6, .inl (fun _ => 0))), (a6, .inl (c6, 6, .inl (fun _ => 0)))] := hD
  refine va_putF (D := D) (ci := 1) (v := .ref a6) (ty := .array .boolean) (C := RX1) (T := TX1) (N := 13) hx hb hts in_X1 tyX1 tyX1_ok nmX1 hown hK hP hD hS 0 rfl rfl 10 (by decide) (hts _ q148) (fun _ h9 => h9) rfl hnm rfl (by decide +kernel) rfl rfl (Nat.le_of_ble_eq_true rfl) dX1_init_61 (fun H locs hP hD hS => ?_)
  have hP : va_P D vwCl [(h0, .inr (1, [.ref a1, .ref a2, .ref a3, .int 1234, .int 3, .int 0, .int 0, .ref a4, .int 0, .ref a5, .ref a6, .null, .int 0])), (a1, .inl (c1, 6, .inl (fun _ => 0))), (a2, .inl (c2, 6, .inl (fun _ => 0))), (a3, .inl (c3, 96, .inl (fun _ => 0))), (a4, .inl (c4, 96, .inl (fun _ => 0))), (a5, .inl (c5, 6, .inl (fun _ => 0))), (a6, .inl (c6, 6, .inl (fun _ => 0)))] H := hP
  have hD : va_D A [(h0, .inr (1, [.ref a1, .ref a2, .ref a3, .int 1234, .int 3, .int 0, .int 0, .ref a4, .int 0, .ref a5, .ref a6, .null, .int 0])), (a1, .inl (c1, 6, .inl (fun _ => 0))), (a2, .inl (c2, 6, .inl (fun _ => 0))), (a3, .inl (c3, 96, .inl (fun _ => 0))), (a4, .inl (c4, 96, .inl (fun _ => 0))), (a5, .inl (c5, 6, .inl (fun _ => 0))), (a6, .inl (c6, 6, .inl (fun _ => 0)))] := hD
  refine lv_aload_n hx hb dX1_init_64 rfl (lv_at hl 0 rfl) ?_
  refine lv_bipush (v := 96) hx hb dX1_init_65 (by decide) ?_
  refine va_newa (atype := .int) (ty := .int) (n := 96) (N' := 96) (a0 := (96, .inl (fun _ => 0))) hx hb (hts _ q49) rfl hK hP hD hS hA (fun _ => rfl) (by decide) (by decide) (by decide) (Nat.le_of_ble_eq_true rfl) (Nat.le_of_ble_eq_true rfl) dX1_init_67 (fun a7 c7 H hK hP hD hS => ?_)
  refine W.widen (k := 7) (n := 312) (Nat.le_of_ble_eq_true rfl) (Nat.le_of_ble_eq_true rfl) ?_
  have hK : va_K D vwCl [(c1, .int), (c2, .boolean), (c3, .int), (c4, .int), (c5, .int), (c6, .boolean), (c7, .int)] s := hK
  have hP : va_P D vwCl [(h0, .inr (1, [.ref a1, .ref a2, .ref a3, .int 1234, .int 3, .int 0, .int 0, .ref a4, .int 0, .ref a5, .ref a6, .null, .int 0])), (a1, .inl (c1, 6, .inl (fun _ => 0))), (a2, .inl (c2, 6, .inl (fun _ => 0))), (a3, .inl (c3, 96, .inl (fun _ => 0))), (a4, .inl (c4, 96, .inl (fun _ => 0))), (a5, .inl (c5, 6, .inl (fun _ => 0))), (a6, .inl (c6, 6, .inl (fun _ => 0))), (a7, .inl (c7, 96, .inl (fun _ => 0)))] H := hP
  have hD : va_D A [(h0, .inr (1, [.ref a1, .ref a2, .ref a3, .int 1234, .int 3, .int 0, .int 0, .ref a4, .int 0, .ref a5, .ref a6, .null, .int 0])), (a1, .inl (c1, 6, .inl (fun _ => 0))), (a2, .inl (c2, 6, .inl (fun _ => 0))), (a3, .inl (c3, 96, .inl (fun _ => 0))), (a4, .inl (c4, 96, .inl (fun _ => 0))), (a5, .inl (c5, 6, .inl (fun _ => 0))), (a6, .inl (c6, 6, .inl (fun _ => 0))), (a7, .inl (c7, 96, .inl (fun _ => 0)))] := hD
  refine va_putF (D := D) (ci := 1) (v := .ref a7) (ty := .array .int) (C := RX1) (T := TX1) (N := 13) hx hb hts in_X1 tyX1 tyX1_ok nmX1 hown hK hP hD hS 0 rfl rfl 11 (by decide) (hts _ q149) (fun _ h9 => h9) rfl hnm rfl (by decide +kernel) rfl rfl (Nat.le_of_ble_eq_true rfl) dX1_init_69 (fun H locs hP hD hS => ?_)
  have hP : va_P D vwCl [(h0, .inr (1, [.ref a1, .ref a2, .ref a3, .int 1234, .int 3, .int 0, .int 0, .ref a4, .int 0, .ref a5, .ref a6, .ref a7, .int 0])), (a1, .inl (c1, 6, .inl (fun _ => 0))), (a2, .inl (c2, 6, .inl (fun _ => 0))), (a3, .inl (c3, 96, .inl (fun _ => 0))), (a4, .inl (c4, 96, .inl (fun _ => 0))), (a5, .inl (c5, 6, .inl (fun _ => 0))), (a6, .inl (c6, 6, .inl (fun _ => 0))), (a7, .inl (c7, 96, .inl (fun _ => 0)))] H := hP
  have hD : va_D A [(h0, .inr (1, [.ref a1, .ref a2, .ref a3, .int 1234, .int 3, .int 0, .int 0, .ref a4, .int 0, .ref a5, .ref a6, .ref a7, .int 0])), (a1, .inl (c1, 6, .inl (fun _ => 0))), (a2, .inl (c2, 6, .inl (fun _ => 0))), (a3, .inl (c3, 96, .inl (fun _ => 0))), (a4, .inl (c4, 96, .inl (fun _ => 0))), (a5, .inl (c5, 6, .inl (fun _ => 0))), (a6, .inl (c6, 6, .inl (fun _ => 0))), (a7, .inl (c7, 96, .inl (fun _ => 0)))] := hD
  have e3 : c1 = c3 := Option.some.inj ((show s.vm.findClass _ = some c1 from (hK.2 0 _ rfl).2).symm.trans (show s.vm.findClass _ = some c3 from (hK.2 2 _ rfl).2))
  subst e3
  have e4 : c1 = c4 := Option.some.inj ((show s.vm.findClass _ = some c1 from (hK.2 0 _ rfl).2).symm.trans (show s.vm.findClass _ = some c4 from (hK.2 3 _ rfl).2))
  subst e4
  have e5 : c1 = c5 := Option.some.inj ((show s.vm.findClass _ = some c1 from (hK.2 0 _ rfl).2).symm.trans (show s.vm.findClass _ = some c5 from (hK.2 4 _ rfl).2))
  subst e5
  have e7 : c1 = c7 := Option.some.inj ((show s.vm.findClass _ = some c1 from (hK.2 0 _ rfl).2).symm.trans (show s.vm.findClass _ = some c7 from (hK.2 6 _ rfl).2))
  subst e7
  have e6 : c2 = c6 := Option.some.inj ((show s.vm.findClass _ = some c2 from (hK.2 1 _ rfl).2).symm.trans (show s.vm.findClass _ = some c6 from (hK.2 5 _ rfl).2))
  subst e6
  have hK9 : va_K D vwCl (tyW c1 c2) s := hK.sub [0, 1] rfl
  have hP9 : va_P D vwCl (wM (fun k => match k with | 0 => h0 | 1 => a1 | 2 => a2 | 3 => a3 | 4 => a4 | 5 => a5 | 6 => a6 | _ => a7 : Nat → Nat) c1 c2 md_new) H := hP
  have hD9 : va_D A (wM (fun k => match k with | 0 => h0 | 1 => a1 | 2 => a2 | 3 => a3 | 4 => a4 | 5 => a5 | 6 => a6 | _ => a7 : Nat → Nat) c1 c2 md_new) := hD
  exact W.vret hx hb hr (fun t ht hW => ⟨⟨((fun k => match k with | 0 => h0 | 1 => a1 | 2 => a2 | 3 => a3 | 4 => a4 | 5 => a5 | 6 => a6 | _ => a7 : Nat → Nat), c1, c2), rfl, rfl, by rw [ht]; exact hP9, va_K.moved hW.alike hK9, hD9⟩, hS.F ht⟩) hS.2.2 dX1_init_72 hloc
end
section
/-! THE CLAIM OUT OF ONE WALK OF THE LAW'S BODY. Your part is whole_start (and what it stands on); all else here is the same for every law, but numbers. -/
def R_law : String := "CardFilesLaw"
def lw_P (b : Addr) (xs : List Int32) (args : Array Value) (s : State) : Prop := args = #[.ref b] ∧ s.IntsAt b xs ∧ xs.length ≤ 256 ∧ (Jvm.Cond.and given_1 narrow_1).before args s = true
def lw_Q (_ : Array Value) (s : State) (o : Outcome) (t : State) : Prop := o = .returned (some (.int 1)) ∧ Framed s o t [] 600000 7290000
def lw_Z (below : List Frame) (a : Array Value) (s : State) : State → Prop := fun t => ∃ o, t.status = .running ∧ Ended t below o ∧ lw_Q a s o t
/-- the law's own end, with 1 on the stack, nothing written that was there before, its room as the claim has it -/
theorem lw_ret {p : Program} {l : Launch} {e : Env} {s : State} {m : MethodId} {below : List Frame} {meth : Method} {c : Code} {b : Nat} (hx : p.tables.exec = Jvm.exec) (hb : c.code = code) (hr : meth.sig.returnType = ret) (hlocks : meth.locks = false) {pc : Nat} {H : Heap} {ls : Array Slot} (hdg : decode code pc = .ok (.ireturn, 1)) : W p l e room_1 s m #[Value.ref b] below meth c H [] 600000 7290000 (lw_Z below #[Value.ref b] s) (F0 m pc ls [.int 1]) := by
  intro T hT X
  obtain ⟨fs, hret, hrun, hended, hW, hframe⟩ := X.leave (v := some (.int 1)) (hlocks := hlocks) (fun h => by rw [hr] at h; cases h)
  have hmeth' : T.vm.method? m = some meth := X.method'
  refine ⟨T.setFrames fs, ?_, .returned (some (.int 1)), hrun, hended, rfl, ⟨_, rfl⟩, hW, hframe⟩
  jvm_step X.here [X.here.top, hx, hb, hdg, hmeth', hr, ret, narrow_b1]
  (try refine ⟨rfl, ?_⟩); (try refine ⟨rfl, ?_⟩)
  first | (intro acts; rw [hret _ acts rfl rfl rfl]) | rw [hret _ _ rfl rfl rfl]
  exact Steps.refl _
/-- what holds at the law's entry: the machine, the code, the tables' words (any of lw_tbl by 'hts w (by decide +kernel)'), the script of L ints xs at the cell b, what the Statement gives of the start (any of its parts by flat_of_before) -/
def lw_At (p : Program) (s : State) (m : MethodId) (meth : Method) (c : Code) (b L : Nat) (xs : Nat → Int32) : Prop :=
  p.tables.exec = Jvm.exec ∧ c.code = code ∧ meth.sig.returnType = ret ∧ c.maxLocals = 4 ∧ s.vm.findClass R_law = some m.cls ∧ (∀ w ∈ lw_tbl, w.before #[Value.ref b] s = true) ∧ va_X b L xs s s.heap ∧ b < s.heap.size ∧ meth.locks = false ∧ (Jvm.Cond.and given_1 narrow_1).before #[Value.ref b] s = true
theorem na_sld {p : Program} {l : Launch} {e : Env} {R : Room} {s : State} {m : MethodId} {args : Array Value} {below : List Frame} {meth : Method} {c : Code} {H H0 : Heap} {locs : List Loc} {cells slots : Nat} {Q : State → Prop} {cc : ByteArray} {pc : Nat} {ls : Array Slot} {rest : List Value} {A : Nat → Prop} (hexec : p.tables.exec = Jvm.exec) (hb : c.code = cc) {b L : Nat} {xs : Nat → Int32} (hX : va_X b L xs s H0) (hbl : b < H0.size) (hbA : ¬ A b) (hS : va_S A H0 H locs) {j : Nat} (hj : j < L) (hL : L < 2 ^ 31) (hdg : decode cc pc = .ok (.iaload, 1))
    (kk : W p l e R s m args below meth c H locs cells slots Q (F0 m (pc + 1) ls (.int (xs j) :: rest))) : W p l e R s m args below meth c H locs cells slots Q (F0 m pc ls (.int (nI j) :: .ref b :: rest)) := by
  refine va_sld hexec hb hX hbl hbA hS (vp_in_nI hj hL) hdg ?_
  rw [nI_clamp (Nat.lt_trans hj hL)]
  exact kk
theorem lw_more {L i : Nat} (hL : L ≤ 256) (hi : i ≤ L) (h : ¬ nI L - nI 4 < nI i) : i + 4 ≤ L := by
  have h1 : ¬ (nI L - nI 4).toInt < (nI i).toInt := fun q => h (Int32.lt_iff_toInt_lt.mpr q)
  rw [pk_sub_toInt (by omega) (by omega), nI_toInt (by omega)] at h1
  omega
set_option maxHeartbeats 4000000 in
set_option maxRecDepth 100000 in
/-- the law's case 0 -/
theorem law_create {p : Program} {e : Env} {s : State} {m : MethodId} {below : List Frame} {meth : Method} {c : Code} (l : Launch) {b L : Nat} {xs : Nat → Int32} (hL : L ≤ 256) (C0 : lw_At p s m meth c b L xs) {D : va_G} {ad bd : Nat → Nat} {cI cZ : ClassId} (hK : va_K D vwCl (tyW cI cZ) s) (k : Nat) (ih : ∀ k1 : Nat, k1 < k → ∀ (H : Heap) (locs : List Loc) (ls : Array Slot), (∃ (i : Nat) (u : CFt) (v : MDt), i + k1 = L + 4 ∧ i ≤ L ∧ rl u v ∧ va_P D vwCl (wX ad cI cZ u ++ wM bd cI cZ v) H ∧ va_D (fun q : Nat => s.heap.size ≤ q) (wX ad cI cZ u ++ wM bd cI cZ v) ∧ va_S (fun q : Nat => s.heap.size ≤ q) s.heap H locs ∧ lv_has ls 4 [(0, .ref b), (1, .ref (ad 0)), (2, .ref (bd 0)), (3, .int (nI i))]) → W p l e room_1 s m #[Value.ref b] below meth c H locs 14 698 (lw_Z below #[Value.ref b] s) (F0 m 18 ls [])) (i : Nat) (u : CFt) (v : MDt) (hik : i + k = L + 4) (hi : i + 4 ≤ L) (hR : rl u v) (H : Heap) (locs : List Loc) (ls : Array Slot) (hP : va_P D vwCl (wX ad cI cZ u ++ wM bd cI cZ v) H) (hD : va_D (fun q : Nat => s.heap.size ≤ q) (wX ad cI cZ u ++ wM bd cI cZ v)) (hS : va_S (fun q : Nat => s.heap.size ≤ q) s.heap H locs) (hl : lv_has ls 4 [(0, .ref b), (1, .ref (ad 0)), (2, .ref (bd 0)), (3, .int (nI i))]) : W p l e room_1 s m #[Value.ref b] below meth c H locs 14 698 (lw_Z below #[Value.ref b] s) (F0 m 96 ls []) := by
  obtain ⟨hx, hb, hr, hml, hown, hts0, hX, hbl, hlocks, hgv⟩ := C0
  have hts : ∀ w ∈ lw_all, w.before #[Value.ref b] s = true := fun w h => hts0 w (lw_all_tbl h)
  have hown : s.vm.findClass "CardFilesLaw" = some m.cls := hown
  have hA : ∀ q : Nat, s.heap.size ≤ q → (fun q : Nat => s.heap.size ≤ q) q := fun _ h => h
  have hbA : ¬ (fun q : Nat => s.heap.size ≤ q) b := Nat.not_le.mpr hbl
  obtain ⟨home, n, lp, lb, tr, ver, tx, sg, sb⟩ := u
  obtain ⟨sz, gd, by_, cd, mtr, mver, op, sn, ch, oz, og, ob, oc⟩ := v
  refine lv_aload_n hx hb dL_law_96 rfl (lv_at hl 1 rfl) ?_
  refine lv_aload_n hx hb dL_law_97 rfl (lv_at hl 0 rfl) ?_
  refine lv_iload_n hx hb dL_law_98 rfl (lv_at hl 3 rfl) ?_
  refine lv_iconst (v := nI 1) hx hb dL_law_99 (by rfl) ?_
  refine lv_iadd hx hb dL_law_100 ?_
  refine w_top (y := nI (i + 1)) (nI_add i 1) ?_
  refine na_sld hx hb hX hbl hbA hS (j := i + 1) (by omega) (by omega) dL_law_101 ?_
  refine lv_aload_n hx hb dL_law_102 rfl (lv_at hl 0 rfl) ?_
  refine lv_iload_n hx hb dL_law_103 rfl (lv_at hl 3 rfl) ?_
  refine lv_iconst (v := nI 2) hx hb dL_law_104 (by rfl) ?_
  refine lv_iadd hx hb dL_law_105 ?_
  refine w_top (y := nI (i + 2)) (nI_add i 2) ?_
  refine na_sld hx hb hX hbl hbA hS (j := i + 2) (by omega) (by omega) dL_law_106 ?_
  refine lv_aload_n hx hb dL_law_107 rfl (lv_at hl 0 rfl) ?_
  refine lv_iload_n hx hb dL_law_108 rfl (lv_at hl 3 rfl) ?_
  refine lv_iconst (v := nI 3) hx hb dL_law_109 (by rfl) ?_
  refine lv_iadd hx hb dL_law_110 ?_
  refine w_top (y := nI (i + 3)) (nI_add i 3) ?_
  refine na_sld hx hb hX hbl hbA hS (j := i + 3) (by omega) (by omega) dL_law_111 ?_
  refine lv_if_eq (tgt := 119) hx hb dL_law_112 (by decide) (fun h0 => ?_) (fun h0 => ?_)
  · refine lv_iconst (v := cf_b false) hx hb dL_law_119 (by rfl) ?_
    refine w_calli (wr := wM bd cI cZ (sz, gd, by_, cd, mtr, mver, op, sn, ch, oz, og, ob, oc)) (mX0_create l D ad cI cZ (home, n, lp, lb, tr, ver, tx, sg, sb) (xs (i + 1)) (xs (i + 2)) false (rl_cfok hR)) [0, 1, 2, 3, 4, 5] [6, 7, 8, 9, 10, 11, 12, 13] 0 ⟨hx, hb, hml, hown, hts⟩ (cwV 3 hts (lw_V q51 q52 q53 q11 q54) rfl rfl rfl (by decide +kernel) ⟨Nat.le_of_ble_eq_true rfl, Nat.le_of_ble_eq_true rfl⟩) hP hD hK hS hA rfl rfl rfl rfl (by decide) rfl rfl rfl hl.1 rfl (Nat.le_of_ble_eq_true rfl) dL_law_120 ⟨Nat.le_of_ble_eq_true rfl, Nat.le_of_ble_eq_true rfl⟩ (fun r1 u1 H locs hw1 hP hD hS => ?_)
    obtain ⟨home1, n1, lp1, lb1, tr1, ver1, tx1, sg1, sb1⟩ := u1
    have hP : va_P D vwCl (wM bd cI cZ (sz, gd, by_, cd, mtr, mver, op, sn, ch, oz, og, ob, oc) ++ wX ad cI cZ (home1, n1, lp1, lb1, tr1, ver1, tx1, sg1, sb1)) H := hP
    have hD : va_D (fun q : Nat => s.heap.size ≤ q) (wM bd cI cZ (sz, gd, by_, cd, mtr, mver, op, sn, ch, oz, og, ob, oc) ++ wX ad cI cZ (home1, n1, lp1, lb1, tr1, ver1, tx1, sg1, sb1)) := hD
    refine lv_aload_n hx hb dL_law_123 rfl (lv_at hl 2 rfl) ?_
    refine lv_aload_n hx hb dL_law_124 rfl (lv_at hl 0 rfl) ?_
    refine lv_iload_n hx hb dL_law_125 rfl (lv_at hl 3 rfl) ?_
    refine lv_iconst (v := nI 1) hx hb dL_law_126 (by rfl) ?_
    refine lv_iadd hx hb dL_law_127 ?_
    refine w_top (y := nI (i + 1)) (nI_add i 1) ?_
    refine na_sld hx hb hX hbl hbA hS (j := i + 1) (by omega) (by omega) dL_law_128 ?_
    refine lv_aload_n hx hb dL_law_129 rfl (lv_at hl 0 rfl) ?_
    refine lv_iload_n hx hb dL_law_130 rfl (lv_at hl 3 rfl) ?_
    refine lv_iconst (v := nI 2) hx hb dL_law_131 (by rfl) ?_
    refine lv_iadd hx hb dL_law_132 ?_
    refine w_top (y := nI (i + 2)) (nI_add i 2) ?_
    refine na_sld hx hb hX hbl hbA hS (j := i + 2) (by omega) (by omega) dL_law_133 ?_
    refine lv_aload_n hx hb dL_law_134 rfl (lv_at hl 0 rfl) ?_
    refine lv_iload_n hx hb dL_law_135 rfl (lv_at hl 3 rfl) ?_
    refine lv_iconst (v := nI 3) hx hb dL_law_136 (by rfl) ?_
    refine lv_iadd hx hb dL_law_137 ?_
    refine w_top (y := nI (i + 3)) (nI_add i 3) ?_
    refine na_sld hx hb hX hbl hbA hS (j := i + 3) (by omega) (by omega) dL_law_138 ?_
    refine lv_if_eq (tgt := 146) hx hb dL_law_139 (by decide) (fun h1 => ?_) (fun h1 => ?_)
    · refine lv_iconst (v := cf_b false) hx hb dL_law_146 (by rfl) ?_
      refine w_calli (wr := wX ad cI cZ (home1, n1, lp1, lb1, tr1, ver1, tx1, sg1, sb1)) (mX1_create l D bd cI cZ (sz, gd, by_, cd, mtr, mver, op, sn, ch, oz, og, ob, oc) (xs (i + 1)) (xs (i + 2)) false) [0, 1, 2, 3, 4, 5, 6, 7] [8, 9, 10, 11, 12, 13] 0 ⟨hx, hb, hml, hown, hts⟩ (cwV 3 hts (lw_V q178 q179 q180 q12 q181) rfl rfl rfl (by decide +kernel) ⟨Nat.le_of_ble_eq_true rfl, Nat.le_of_ble_eq_true rfl⟩) hP hD hK hS hA rfl rfl rfl rfl (by decide) rfl rfl rfl hl.1 rfl (Nat.le_of_ble_eq_true rfl) dL_law_147 ⟨Nat.le_of_ble_eq_true rfl, Nat.le_of_ble_eq_true rfl⟩ (fun r2 u2 H locs hw2 hP hD hS => ?_)
      obtain ⟨sz2, gd2, by_2, cd2, mtr2, mver2, op2, sn2, ch2, oz2, og2, ob2, oc2⟩ := u2
      have hP : va_P D vwCl (wX ad cI cZ (home1, n1, lp1, lb1, tr1, ver1, tx1, sg1, sb1) ++ wM bd cI cZ (sz2, gd2, by_2, cd2, mtr2, mver2, op2, sn2, ch2, oz2, og2, ob2, oc2)) H := hP
      have hD : va_D (fun q : Nat => s.heap.size ≤ q) (wX ad cI cZ (home1, n1, lp1, lb1, tr1, ver1, tx1, sg1, sb1) ++ wM bd cI cZ (sz2, gd2, by_2, cd2, mtr2, mver2, op2, sn2, ch2, oz2, og2, ob2, oc2)) := hD
      have hE := rl_create hR (xs (i + 1)) (xs (i + 2)) false
      rw [← hw1, ← hw2] at hE
      refine lv_icmp_eq (tgt := 410) hx hb dL_law_150 (by decide) (fun hc => ?_) (fun hc => ?_)
      · refine lv_iinc (v := nI (i + 4)) (lv' := [(3, .int (nI (i + 4))), (0, .ref b), (1, .ref (ad 0)), (2, .ref (bd 0))]) hx hb dL_law_410 hl (k := 3) rfl (nI_add _ 4) (by decide) rfl (fun ls hl => ?_)
        refine lv_goto (tgt := 18) hx hb dL_law_413 (by decide) ?_
        exact ih (k - 4) (by omega) _ _ _ ⟨i + 4, (home1, n1, lp1, lb1, tr1, ver1, tx1, sg1, sb1), (sz2, gd2, by_2, cd2, mtr2, mver2, op2, sn2, ch2, oz2, og2, ob2, oc2), by omega, by omega, hE.2, hP, hD, hS, lv_sub hl [1, 2, 3, 0] rfl⟩
      · exact absurd hE.1 hc
    · exact absurd h0 h1
  · refine lv_iconst (v := cf_b true) hx hb dL_law_115 (by rfl) ?_
    refine lv_goto (tgt := 120) hx hb dL_law_116 (by decide) ?_
    refine w_calli (wr := wM bd cI cZ (sz, gd, by_, cd, mtr, mver, op, sn, ch, oz, og, ob, oc)) (mX0_create l D ad cI cZ (home, n, lp, lb, tr, ver, tx, sg, sb) (xs (i + 1)) (xs (i + 2)) true (rl_cfok hR)) [0, 1, 2, 3, 4, 5] [6, 7, 8, 9, 10, 11, 12, 13] 0 ⟨hx, hb, hml, hown, hts⟩ (cwV 3 hts (lw_V q51 q52 q53 q11 q54) rfl rfl rfl (by decide +kernel) ⟨Nat.le_of_ble_eq_true rfl, Nat.le_of_ble_eq_true rfl⟩) hP hD hK hS hA rfl rfl rfl rfl (by decide) rfl rfl rfl hl.1 rfl (Nat.le_of_ble_eq_true rfl) dL_law_120 ⟨Nat.le_of_ble_eq_true rfl, Nat.le_of_ble_eq_true rfl⟩ (fun r1 u1 H locs hw1 hP hD hS => ?_)
    obtain ⟨home1, n1, lp1, lb1, tr1, ver1, tx1, sg1, sb1⟩ := u1
    have hP : va_P D vwCl (wM bd cI cZ (sz, gd, by_, cd, mtr, mver, op, sn, ch, oz, og, ob, oc) ++ wX ad cI cZ (home1, n1, lp1, lb1, tr1, ver1, tx1, sg1, sb1)) H := hP
    have hD : va_D (fun q : Nat => s.heap.size ≤ q) (wM bd cI cZ (sz, gd, by_, cd, mtr, mver, op, sn, ch, oz, og, ob, oc) ++ wX ad cI cZ (home1, n1, lp1, lb1, tr1, ver1, tx1, sg1, sb1)) := hD
    refine lv_aload_n hx hb dL_law_123 rfl (lv_at hl 2 rfl) ?_
    refine lv_aload_n hx hb dL_law_124 rfl (lv_at hl 0 rfl) ?_
    refine lv_iload_n hx hb dL_law_125 rfl (lv_at hl 3 rfl) ?_
    refine lv_iconst (v := nI 1) hx hb dL_law_126 (by rfl) ?_
    refine lv_iadd hx hb dL_law_127 ?_
    refine w_top (y := nI (i + 1)) (nI_add i 1) ?_
    refine na_sld hx hb hX hbl hbA hS (j := i + 1) (by omega) (by omega) dL_law_128 ?_
    refine lv_aload_n hx hb dL_law_129 rfl (lv_at hl 0 rfl) ?_
    refine lv_iload_n hx hb dL_law_130 rfl (lv_at hl 3 rfl) ?_
    refine lv_iconst (v := nI 2) hx hb dL_law_131 (by rfl) ?_
    refine lv_iadd hx hb dL_law_132 ?_
    refine w_top (y := nI (i + 2)) (nI_add i 2) ?_
    refine na_sld hx hb hX hbl hbA hS (j := i + 2) (by omega) (by omega) dL_law_133 ?_
    refine lv_aload_n hx hb dL_law_134 rfl (lv_at hl 0 rfl) ?_
    refine lv_iload_n hx hb dL_law_135 rfl (lv_at hl 3 rfl) ?_
    refine lv_iconst (v := nI 3) hx hb dL_law_136 (by rfl) ?_
    refine lv_iadd hx hb dL_law_137 ?_
    refine w_top (y := nI (i + 3)) (nI_add i 3) ?_
    refine na_sld hx hb hX hbl hbA hS (j := i + 3) (by omega) (by omega) dL_law_138 ?_
    refine lv_if_eq (tgt := 146) hx hb dL_law_139 (by decide) (fun h1 => ?_) (fun h1 => ?_)
    · exact absurd h1 h0
    · refine lv_iconst (v := cf_b true) hx hb dL_law_142 (by rfl) ?_
      refine lv_goto (tgt := 147) hx hb dL_law_143 (by decide) ?_
      refine w_calli (wr := wX ad cI cZ (home1, n1, lp1, lb1, tr1, ver1, tx1, sg1, sb1)) (mX1_create l D bd cI cZ (sz, gd, by_, cd, mtr, mver, op, sn, ch, oz, og, ob, oc) (xs (i + 1)) (xs (i + 2)) true) [0, 1, 2, 3, 4, 5, 6, 7] [8, 9, 10, 11, 12, 13] 0 ⟨hx, hb, hml, hown, hts⟩ (cwV 3 hts (lw_V q178 q179 q180 q12 q181) rfl rfl rfl (by decide +kernel) ⟨Nat.le_of_ble_eq_true rfl, Nat.le_of_ble_eq_true rfl⟩) hP hD hK hS hA rfl rfl rfl rfl (by decide) rfl rfl rfl hl.1 rfl (Nat.le_of_ble_eq_true rfl) dL_law_147 ⟨Nat.le_of_ble_eq_true rfl, Nat.le_of_ble_eq_true rfl⟩ (fun r2 u2 H locs hw2 hP hD hS => ?_)
      obtain ⟨sz2, gd2, by_2, cd2, mtr2, mver2, op2, sn2, ch2, oz2, og2, ob2, oc2⟩ := u2
      have hP : va_P D vwCl (wX ad cI cZ (home1, n1, lp1, lb1, tr1, ver1, tx1, sg1, sb1) ++ wM bd cI cZ (sz2, gd2, by_2, cd2, mtr2, mver2, op2, sn2, ch2, oz2, og2, ob2, oc2)) H := hP
      have hD : va_D (fun q : Nat => s.heap.size ≤ q) (wX ad cI cZ (home1, n1, lp1, lb1, tr1, ver1, tx1, sg1, sb1) ++ wM bd cI cZ (sz2, gd2, by_2, cd2, mtr2, mver2, op2, sn2, ch2, oz2, og2, ob2, oc2)) := hD
      have hE := rl_create hR (xs (i + 1)) (xs (i + 2)) true
      rw [← hw1, ← hw2] at hE
      refine lv_icmp_eq (tgt := 410) hx hb dL_law_150 (by decide) (fun hc => ?_) (fun hc => ?_)
      · refine lv_iinc (v := nI (i + 4)) (lv' := [(3, .int (nI (i + 4))), (0, .ref b), (1, .ref (ad 0)), (2, .ref (bd 0))]) hx hb dL_law_410 hl (k := 3) rfl (nI_add _ 4) (by decide) rfl (fun ls hl => ?_)
        refine lv_goto (tgt := 18) hx hb dL_law_413 (by decide) ?_
        exact ih (k - 4) (by omega) _ _ _ ⟨i + 4, (home1, n1, lp1, lb1, tr1, ver1, tx1, sg1, sb1), (sz2, gd2, by_2, cd2, mtr2, mver2, op2, sn2, ch2, oz2, og2, ob2, oc2), by omega, by omega, hE.2, hP, hD, hS, lv_sub hl [1, 2, 3, 0] rfl⟩
      · exact absurd hE.1 hc
set_option maxHeartbeats 4000000 in
set_option maxRecDepth 100000 in
/-- the law's case 1 -/
theorem law_update {p : Program} {e : Env} {s : State} {m : MethodId} {below : List Frame} {meth : Method} {c : Code} (l : Launch) {b L : Nat} {xs : Nat → Int32} (hL : L ≤ 256) (C0 : lw_At p s m meth c b L xs) {D : va_G} {ad bd : Nat → Nat} {cI cZ : ClassId} (hK : va_K D vwCl (tyW cI cZ) s) (k : Nat) (ih : ∀ k1 : Nat, k1 < k → ∀ (H : Heap) (locs : List Loc) (ls : Array Slot), (∃ (i : Nat) (u : CFt) (v : MDt), i + k1 = L + 4 ∧ i ≤ L ∧ rl u v ∧ va_P D vwCl (wX ad cI cZ u ++ wM bd cI cZ v) H ∧ va_D (fun q : Nat => s.heap.size ≤ q) (wX ad cI cZ u ++ wM bd cI cZ v) ∧ va_S (fun q : Nat => s.heap.size ≤ q) s.heap H locs ∧ lv_has ls 4 [(0, .ref b), (1, .ref (ad 0)), (2, .ref (bd 0)), (3, .int (nI i))]) → W p l e room_1 s m #[Value.ref b] below meth c H locs 14 698 (lw_Z below #[Value.ref b] s) (F0 m 18 ls [])) (i : Nat) (u : CFt) (v : MDt) (hik : i + k = L + 4) (hi : i + 4 ≤ L) (hR : rl u v) (H : Heap) (locs : List Loc) (ls : Array Slot) (hP : va_P D vwCl (wX ad cI cZ u ++ wM bd cI cZ v) H) (hD : va_D (fun q : Nat => s.heap.size ≤ q) (wX ad cI cZ u ++ wM bd cI cZ v)) (hS : va_S (fun q : Nat => s.heap.size ≤ q) s.heap H locs) (hl : lv_has ls 4 [(0, .ref b), (1, .ref (ad 0)), (2, .ref (bd 0)), (3, .int (nI i))]) : W p l e room_1 s m #[Value.ref b] below meth c H locs 14 698 (lw_Z below #[Value.ref b] s) (F0 m 155 ls []) := by
  obtain ⟨hx, hb, hr, hml, hown, hts0, hX, hbl, hlocks, hgv⟩ := C0
  have hts : ∀ w ∈ lw_all, w.before #[Value.ref b] s = true := fun w h => hts0 w (lw_all_tbl h)
  have hown : s.vm.findClass "CardFilesLaw" = some m.cls := hown
  have hA : ∀ q : Nat, s.heap.size ≤ q → (fun q : Nat => s.heap.size ≤ q) q := fun _ h => h
  have hbA : ¬ (fun q : Nat => s.heap.size ≤ q) b := Nat.not_le.mpr hbl
  obtain ⟨home, n, lp, lb, tr, ver, tx, sg, sb⟩ := u
  obtain ⟨sz, gd, by_, cd, mtr, mver, op, sn, ch, oz, og, ob, oc⟩ := v
  refine lv_aload_n hx hb dL_law_155 rfl (lv_at hl 1 rfl) ?_
  refine lv_aload_n hx hb dL_law_156 rfl (lv_at hl 0 rfl) ?_
  refine lv_iload_n hx hb dL_law_157 rfl (lv_at hl 3 rfl) ?_
  refine lv_iconst (v := nI 1) hx hb dL_law_158 (by rfl) ?_
  refine lv_iadd hx hb dL_law_159 ?_
  refine w_top (y := nI (i + 1)) (nI_add i 1) ?_
  refine na_sld hx hb hX hbl hbA hS (j := i + 1) (by omega) (by omega) dL_law_160 ?_
  refine lv_aload_n hx hb dL_law_161 rfl (lv_at hl 0 rfl) ?_
  refine lv_iload_n hx hb dL_law_162 rfl (lv_at hl 3 rfl) ?_
  refine lv_iconst (v := nI 2) hx hb dL_law_163 (by rfl) ?_
  refine lv_iadd hx hb dL_law_164 ?_
  refine w_top (y := nI (i + 2)) (nI_add i 2) ?_
  refine na_sld hx hb hX hbl hbA hS (j := i + 2) (by omega) (by omega) dL_law_165 ?_
  refine lv_aload_n hx hb dL_law_166 rfl (lv_at hl 0 rfl) ?_
  refine lv_iload_n hx hb dL_law_167 rfl (lv_at hl 3 rfl) ?_
  refine lv_iconst (v := nI 3) hx hb dL_law_168 (by rfl) ?_
  refine lv_iadd hx hb dL_law_169 ?_
  refine w_top (y := nI (i + 3)) (nI_add i 3) ?_
  refine na_sld hx hb hX hbl hbA hS (j := i + 3) (by omega) (by omega) dL_law_170 ?_
  refine w_calli (wr := wM bd cI cZ (sz, gd, by_, cd, mtr, mver, op, sn, ch, oz, og, ob, oc)) (mX0_update l D ad cI cZ (home, n, lp, lb, tr, ver, tx, sg, sb) (xs (i + 1)) (xs (i + 2)) (xs (i + 3)) (rl_cfok hR)) [0, 1, 2, 3, 4, 5] [6, 7, 8, 9, 10, 11, 12, 13] 0 ⟨hx, hb, hml, hown, hts⟩ (cwV 3 hts (lw_V q83 q84 q85 q11 q86) rfl rfl rfl (by decide +kernel) ⟨Nat.le_of_ble_eq_true rfl, Nat.le_of_ble_eq_true rfl⟩) hP hD hK hS hA rfl rfl rfl rfl (by decide) rfl rfl rfl hl.1 rfl (Nat.le_of_ble_eq_true rfl) dL_law_171 ⟨Nat.le_of_ble_eq_true rfl, Nat.le_of_ble_eq_true rfl⟩ (fun r1 u1 H locs hw1 hP hD hS => ?_)
  obtain ⟨home1, n1, lp1, lb1, tr1, ver1, tx1, sg1, sb1⟩ := u1
  have hP : va_P D vwCl (wM bd cI cZ (sz, gd, by_, cd, mtr, mver, op, sn, ch, oz, og, ob, oc) ++ wX ad cI cZ (home1, n1, lp1, lb1, tr1, ver1, tx1, sg1, sb1)) H := hP
  have hD : va_D (fun q : Nat => s.heap.size ≤ q) (wM bd cI cZ (sz, gd, by_, cd, mtr, mver, op, sn, ch, oz, og, ob, oc) ++ wX ad cI cZ (home1, n1, lp1, lb1, tr1, ver1, tx1, sg1, sb1)) := hD
  refine lv_aload_n hx hb dL_law_174 rfl (lv_at hl 2 rfl) ?_
  refine lv_aload_n hx hb dL_law_175 rfl (lv_at hl 0 rfl) ?_
  refine lv_iload_n hx hb dL_law_176 rfl (lv_at hl 3 rfl) ?_
  refine lv_iconst (v := nI 1) hx hb dL_law_177 (by rfl) ?_
  refine lv_iadd hx hb dL_law_178 ?_
  refine w_top (y := nI (i + 1)) (nI_add i 1) ?_
  refine na_sld hx hb hX hbl hbA hS (j := i + 1) (by omega) (by omega) dL_law_179 ?_
  refine lv_aload_n hx hb dL_law_180 rfl (lv_at hl 0 rfl) ?_
  refine lv_iload_n hx hb dL_law_181 rfl (lv_at hl 3 rfl) ?_
  refine lv_iconst (v := nI 2) hx hb dL_law_182 (by rfl) ?_
  refine lv_iadd hx hb dL_law_183 ?_
  refine w_top (y := nI (i + 2)) (nI_add i 2) ?_
  refine na_sld hx hb hX hbl hbA hS (j := i + 2) (by omega) (by omega) dL_law_184 ?_
  refine lv_aload_n hx hb dL_law_185 rfl (lv_at hl 0 rfl) ?_
  refine lv_iload_n hx hb dL_law_186 rfl (lv_at hl 3 rfl) ?_
  refine lv_iconst (v := nI 3) hx hb dL_law_187 (by rfl) ?_
  refine lv_iadd hx hb dL_law_188 ?_
  refine w_top (y := nI (i + 3)) (nI_add i 3) ?_
  refine na_sld hx hb hX hbl hbA hS (j := i + 3) (by omega) (by omega) dL_law_189 ?_
  refine w_calli (wr := wX ad cI cZ (home1, n1, lp1, lb1, tr1, ver1, tx1, sg1, sb1)) (mX1_update l D bd cI cZ (sz, gd, by_, cd, mtr, mver, op, sn, ch, oz, og, ob, oc) (xs (i + 1)) (xs (i + 2)) (xs (i + 3)) (rl_mdok hR)) [0, 1, 2, 3, 4, 5, 6, 7] [8, 9, 10, 11, 12, 13] 0 ⟨hx, hb, hml, hown, hts⟩ (cwV 3 hts (lw_V q186 q187 q188 q12 q189) rfl rfl rfl (by decide +kernel) ⟨Nat.le_of_ble_eq_true rfl, Nat.le_of_ble_eq_true rfl⟩) hP hD hK hS hA rfl rfl rfl rfl (by decide) rfl rfl rfl hl.1 rfl (Nat.le_of_ble_eq_true rfl) dL_law_190 ⟨Nat.le_of_ble_eq_true rfl, Nat.le_of_ble_eq_true rfl⟩ (fun r2 u2 H locs hw2 hP hD hS => ?_)
  obtain ⟨sz2, gd2, by_2, cd2, mtr2, mver2, op2, sn2, ch2, oz2, og2, ob2, oc2⟩ := u2
  have hP : va_P D vwCl (wX ad cI cZ (home1, n1, lp1, lb1, tr1, ver1, tx1, sg1, sb1) ++ wM bd cI cZ (sz2, gd2, by_2, cd2, mtr2, mver2, op2, sn2, ch2, oz2, og2, ob2, oc2)) H := hP
  have hD : va_D (fun q : Nat => s.heap.size ≤ q) (wX ad cI cZ (home1, n1, lp1, lb1, tr1, ver1, tx1, sg1, sb1) ++ wM bd cI cZ (sz2, gd2, by_2, cd2, mtr2, mver2, op2, sn2, ch2, oz2, og2, ob2, oc2)) := hD
  have hE := rl_update hR (xs (i + 1)) (xs (i + 2)) (xs (i + 3))
  rw [← hw1, ← hw2] at hE
  refine lv_icmp_eq (tgt := 410) hx hb dL_law_193 (by decide) (fun hc => ?_) (fun hc => ?_)
  · refine lv_iinc (v := nI (i + 4)) (lv' := [(3, .int (nI (i + 4))), (0, .ref b), (1, .ref (ad 0)), (2, .ref (bd 0))]) hx hb dL_law_410 hl (k := 3) rfl (nI_add _ 4) (by decide) rfl (fun ls hl => ?_)
    refine lv_goto (tgt := 18) hx hb dL_law_413 (by decide) ?_
    exact ih (k - 4) (by omega) _ _ _ ⟨i + 4, (home1, n1, lp1, lb1, tr1, ver1, tx1, sg1, sb1), (sz2, gd2, by_2, cd2, mtr2, mver2, op2, sn2, ch2, oz2, og2, ob2, oc2), by omega, by omega, hE.2, hP, hD, hS, lv_sub hl [1, 2, 3, 0] rfl⟩
  · exact absurd hE.1 hc
set_option maxHeartbeats 4000000 in
set_option maxRecDepth 100000 in
/-- the law's case 2 -/
theorem law_read {p : Program} {e : Env} {s : State} {m : MethodId} {below : List Frame} {meth : Method} {c : Code} (l : Launch) {b L : Nat} {xs : Nat → Int32} (hL : L ≤ 256) (C0 : lw_At p s m meth c b L xs) {D : va_G} {ad bd : Nat → Nat} {cI cZ : ClassId} (hK : va_K D vwCl (tyW cI cZ) s) (k : Nat) (ih : ∀ k1 : Nat, k1 < k → ∀ (H : Heap) (locs : List Loc) (ls : Array Slot), (∃ (i : Nat) (u : CFt) (v : MDt), i + k1 = L + 4 ∧ i ≤ L ∧ rl u v ∧ va_P D vwCl (wX ad cI cZ u ++ wM bd cI cZ v) H ∧ va_D (fun q : Nat => s.heap.size ≤ q) (wX ad cI cZ u ++ wM bd cI cZ v) ∧ va_S (fun q : Nat => s.heap.size ≤ q) s.heap H locs ∧ lv_has ls 4 [(0, .ref b), (1, .ref (ad 0)), (2, .ref (bd 0)), (3, .int (nI i))]) → W p l e room_1 s m #[Value.ref b] below meth c H locs 14 698 (lw_Z below #[Value.ref b] s) (F0 m 18 ls [])) (i : Nat) (u : CFt) (v : MDt) (hik : i + k = L + 4) (hi : i + 4 ≤ L) (hR : rl u v) (H : Heap) (locs : List Loc) (ls : Array Slot) (hP : va_P D vwCl (wX ad cI cZ u ++ wM bd cI cZ v) H) (hD : va_D (fun q : Nat => s.heap.size ≤ q) (wX ad cI cZ u ++ wM bd cI cZ v)) (hS : va_S (fun q : Nat => s.heap.size ≤ q) s.heap H locs) (hl : lv_has ls 4 [(0, .ref b), (1, .ref (ad 0)), (2, .ref (bd 0)), (3, .int (nI i))]) : W p l e room_1 s m #[Value.ref b] below meth c H locs 14 698 (lw_Z below #[Value.ref b] s) (F0 m 198 ls []) := by
  obtain ⟨hx, hb, hr, hml, hown, hts0, hX, hbl, hlocks, hgv⟩ := C0
  have hts : ∀ w ∈ lw_all, w.before #[Value.ref b] s = true := fun w h => hts0 w (lw_all_tbl h)
  have hown : s.vm.findClass "CardFilesLaw" = some m.cls := hown
  have hA : ∀ q : Nat, s.heap.size ≤ q → (fun q : Nat => s.heap.size ≤ q) q := fun _ h => h
  have hbA : ¬ (fun q : Nat => s.heap.size ≤ q) b := Nat.not_le.mpr hbl
  obtain ⟨home, n, lp, lb, tr, ver, tx, sg, sb⟩ := u
  obtain ⟨sz, gd, by_, cd, mtr, mver, op, sn, ch, oz, og, ob, oc⟩ := v
  refine lv_aload_n hx hb dL_law_198 rfl (lv_at hl 1 rfl) ?_
  refine lv_aload_n hx hb dL_law_199 rfl (lv_at hl 0 rfl) ?_
  refine lv_iload_n hx hb dL_law_200 rfl (lv_at hl 3 rfl) ?_
  refine lv_iconst (v := nI 1) hx hb dL_law_201 (by rfl) ?_
  refine lv_iadd hx hb dL_law_202 ?_
  refine w_top (y := nI (i + 1)) (nI_add i 1) ?_
  refine na_sld hx hb hX hbl hbA hS (j := i + 1) (by omega) (by omega) dL_law_203 ?_
  refine lv_aload_n hx hb dL_law_204 rfl (lv_at hl 0 rfl) ?_
  refine lv_iload_n hx hb dL_law_205 rfl (lv_at hl 3 rfl) ?_
  refine lv_iconst (v := nI 2) hx hb dL_law_206 (by rfl) ?_
  refine lv_iadd hx hb dL_law_207 ?_
  refine w_top (y := nI (i + 2)) (nI_add i 2) ?_
  refine na_sld hx hb hX hbl hbA hS (j := i + 2) (by omega) (by omega) dL_law_208 ?_
  refine w_calli (wr := wM bd cI cZ (sz, gd, by_, cd, mtr, mver, op, sn, ch, oz, og, ob, oc)) (mX0_read l D ad cI cZ (home, n, lp, lb, tr, ver, tx, sg, sb) (xs (i + 1)) (xs (i + 2)) (rl_cfok hR)) [0, 1, 2, 3, 4, 5] [6, 7, 8, 9, 10, 11, 12, 13] 0 ⟨hx, hb, hml, hown, hts⟩ (cwV 2 hts (lw_V q91 q92 q93 q11 q94) rfl rfl rfl (by decide +kernel) ⟨Nat.le_of_ble_eq_true rfl, Nat.le_of_ble_eq_true rfl⟩) hP hD hK hS hA rfl rfl rfl rfl (by decide) rfl rfl rfl hl.1 rfl (Nat.le_of_ble_eq_true rfl) dL_law_209 ⟨Nat.le_of_ble_eq_true rfl, Nat.le_of_ble_eq_true rfl⟩ (fun r1 u1 H locs hw1 hP hD hS => ?_)
  obtain ⟨rfl, rfl⟩ := hw1
  have hP : va_P D vwCl (wM bd cI cZ (sz, gd, by_, cd, mtr, mver, op, sn, ch, oz, og, ob, oc) ++ wX ad cI cZ (home, n, lp, lb, tr, ver, tx, sg, sb)) H := hP
  have hD : va_D (fun q : Nat => s.heap.size ≤ q) (wM bd cI cZ (sz, gd, by_, cd, mtr, mver, op, sn, ch, oz, og, ob, oc) ++ wX ad cI cZ (home, n, lp, lb, tr, ver, tx, sg, sb)) := hD
  refine lv_aload_n hx hb dL_law_212 rfl (lv_at hl 2 rfl) ?_
  refine lv_aload_n hx hb dL_law_213 rfl (lv_at hl 0 rfl) ?_
  refine lv_iload_n hx hb dL_law_214 rfl (lv_at hl 3 rfl) ?_
  refine lv_iconst (v := nI 1) hx hb dL_law_215 (by rfl) ?_
  refine lv_iadd hx hb dL_law_216 ?_
  refine w_top (y := nI (i + 1)) (nI_add i 1) ?_
  refine na_sld hx hb hX hbl hbA hS (j := i + 1) (by omega) (by omega) dL_law_217 ?_
  refine lv_aload_n hx hb dL_law_218 rfl (lv_at hl 0 rfl) ?_
  refine lv_iload_n hx hb dL_law_219 rfl (lv_at hl 3 rfl) ?_
  refine lv_iconst (v := nI 2) hx hb dL_law_220 (by rfl) ?_
  refine lv_iadd hx hb dL_law_221 ?_
  refine w_top (y := nI (i + 2)) (nI_add i 2) ?_
  refine na_sld hx hb hX hbl hbA hS (j := i + 2) (by omega) (by omega) dL_law_222 ?_
  refine w_calli (wr := wX ad cI cZ (home, n, lp, lb, tr, ver, tx, sg, sb)) (mX1_read l D bd cI cZ (sz, gd, by_, cd, mtr, mver, op, sn, ch, oz, og, ob, oc) (xs (i + 1)) (xs (i + 2)) (rl_mdok hR)) [0, 1, 2, 3, 4, 5, 6, 7] [8, 9, 10, 11, 12, 13] 0 ⟨hx, hb, hml, hown, hts⟩ (cwV 2 hts (lw_V q194 q195 q196 q12 q197) rfl rfl rfl (by decide +kernel) ⟨Nat.le_of_ble_eq_true rfl, Nat.le_of_ble_eq_true rfl⟩) hP hD hK hS hA rfl rfl rfl rfl (by decide) rfl rfl rfl hl.1 rfl (Nat.le_of_ble_eq_true rfl) dL_law_223 ⟨Nat.le_of_ble_eq_true rfl, Nat.le_of_ble_eq_true rfl⟩ (fun r2 u2 H locs hw2 hP hD hS => ?_)
  obtain ⟨rfl, rfl⟩ := hw2
  have hP : va_P D vwCl (wX ad cI cZ (home, n, lp, lb, tr, ver, tx, sg, sb) ++ wM bd cI cZ (sz, gd, by_, cd, mtr, mver, op, sn, ch, oz, og, ob, oc)) H := hP
  have hD : va_D (fun q : Nat => s.heap.size ≤ q) (wX ad cI cZ (home, n, lp, lb, tr, ver, tx, sg, sb) ++ wM bd cI cZ (sz, gd, by_, cd, mtr, mver, op, sn, ch, oz, og, ob, oc)) := hD
  refine lv_icmp_eq (tgt := 410) hx hb dL_law_226 (by decide) (fun hc => ?_) (fun hc => ?_)
  · refine lv_iinc (v := nI (i + 4)) (lv' := [(3, .int (nI (i + 4))), (0, .ref b), (1, .ref (ad 0)), (2, .ref (bd 0))]) hx hb dL_law_410 hl (k := 3) rfl (nI_add _ 4) (by decide) rfl (fun ls hl => ?_)
    refine lv_goto (tgt := 18) hx hb dL_law_413 (by decide) ?_
    exact ih (k - 4) (by omega) _ _ _ ⟨i + 4, (home, n, lp, lb, tr, ver, tx, sg, sb), (sz, gd, by_, cd, mtr, mver, op, sn, ch, oz, og, ob, oc), by omega, by omega, hR, hP, hD, hS, lv_sub hl [1, 2, 3, 0] rfl⟩
  · exact absurd (rl_read hR (xs (i + 1)) (xs (i + 2))) hc
set_option maxHeartbeats 4000000 in
set_option maxRecDepth 100000 in
/-- the law's case 3 -/
theorem law_begin {p : Program} {e : Env} {s : State} {m : MethodId} {below : List Frame} {meth : Method} {c : Code} (l : Launch) {b L : Nat} {xs : Nat → Int32} (hL : L ≤ 256) (C0 : lw_At p s m meth c b L xs) {D : va_G} {ad bd : Nat → Nat} {cI cZ : ClassId} (hK : va_K D vwCl (tyW cI cZ) s) (k : Nat) (ih : ∀ k1 : Nat, k1 < k → ∀ (H : Heap) (locs : List Loc) (ls : Array Slot), (∃ (i : Nat) (u : CFt) (v : MDt), i + k1 = L + 4 ∧ i ≤ L ∧ rl u v ∧ va_P D vwCl (wX ad cI cZ u ++ wM bd cI cZ v) H ∧ va_D (fun q : Nat => s.heap.size ≤ q) (wX ad cI cZ u ++ wM bd cI cZ v) ∧ va_S (fun q : Nat => s.heap.size ≤ q) s.heap H locs ∧ lv_has ls 4 [(0, .ref b), (1, .ref (ad 0)), (2, .ref (bd 0)), (3, .int (nI i))]) → W p l e room_1 s m #[Value.ref b] below meth c H locs 14 698 (lw_Z below #[Value.ref b] s) (F0 m 18 ls [])) (i : Nat) (u : CFt) (v : MDt) (hik : i + k = L + 4) (hi : i + 4 ≤ L) (hR : rl u v) (H : Heap) (locs : List Loc) (ls : Array Slot) (hP : va_P D vwCl (wX ad cI cZ u ++ wM bd cI cZ v) H) (hD : va_D (fun q : Nat => s.heap.size ≤ q) (wX ad cI cZ u ++ wM bd cI cZ v)) (hS : va_S (fun q : Nat => s.heap.size ≤ q) s.heap H locs) (hl : lv_has ls 4 [(0, .ref b), (1, .ref (ad 0)), (2, .ref (bd 0)), (3, .int (nI i))]) : W p l e room_1 s m #[Value.ref b] below meth c H locs 14 698 (lw_Z below #[Value.ref b] s) (F0 m 231 ls []) := by
  obtain ⟨hx, hb, hr, hml, hown, hts0, hX, hbl, hlocks, hgv⟩ := C0
  have hts : ∀ w ∈ lw_all, w.before #[Value.ref b] s = true := fun w h => hts0 w (lw_all_tbl h)
  have hown : s.vm.findClass "CardFilesLaw" = some m.cls := hown
  have hA : ∀ q : Nat, s.heap.size ≤ q → (fun q : Nat => s.heap.size ≤ q) q := fun _ h => h
  have hbA : ¬ (fun q : Nat => s.heap.size ≤ q) b := Nat.not_le.mpr hbl
  obtain ⟨home, n, lp, lb, tr, ver, tx, sg, sb⟩ := u
  obtain ⟨sz, gd, by_, cd, mtr, mver, op, sn, ch, oz, og, ob, oc⟩ := v
  refine lv_aload_n hx hb dL_law_231 rfl (lv_at hl 1 rfl) ?_
  refine w_calli (wr := wM bd cI cZ (sz, gd, by_, cd, mtr, mver, op, sn, ch, oz, og, ob, oc)) (mX0_begin l D ad cI cZ (home, n, lp, lb, tr, ver, tx, sg, sb)) [0, 1, 2, 3, 4, 5] [6, 7, 8, 9, 10, 11, 12, 13] 0 ⟨hx, hb, hml, hown, hts⟩ (cwV 0 hts (lw_V q95 q96 q97 q11 q98) rfl rfl rfl (by decide +kernel) ⟨Nat.le_of_ble_eq_true rfl, Nat.le_of_ble_eq_true rfl⟩) hP hD hK hS hA rfl rfl rfl rfl (by decide) rfl rfl rfl hl.1 rfl (Nat.le_of_ble_eq_true rfl) dL_law_232 ⟨Nat.le_of_ble_eq_true rfl, Nat.le_of_ble_eq_true rfl⟩ (fun r1 u1 H locs hw1 hP hD hS => ?_)
  obtain ⟨home1, n1, lp1, lb1, tr1, ver1, tx1, sg1, sb1⟩ := u1
  have hP : va_P D vwCl (wM bd cI cZ (sz, gd, by_, cd, mtr, mver, op, sn, ch, oz, og, ob, oc) ++ wX ad cI cZ (home1, n1, lp1, lb1, tr1, ver1, tx1, sg1, sb1)) H := hP
  have hD : va_D (fun q : Nat => s.heap.size ≤ q) (wM bd cI cZ (sz, gd, by_, cd, mtr, mver, op, sn, ch, oz, og, ob, oc) ++ wX ad cI cZ (home1, n1, lp1, lb1, tr1, ver1, tx1, sg1, sb1)) := hD
  refine lv_aload_n hx hb dL_law_235 rfl (lv_at hl 2 rfl) ?_
  refine w_calli (wr := wX ad cI cZ (home1, n1, lp1, lb1, tr1, ver1, tx1, sg1, sb1)) (mX1_begin l D bd cI cZ (sz, gd, by_, cd, mtr, mver, op, sn, ch, oz, og, ob, oc) ) [0, 1, 2, 3, 4, 5, 6, 7] [8, 9, 10, 11, 12, 13] 0 ⟨hx, hb, hml, hown, hts⟩ (cwV 0 hts (lw_V q198 q199 q200 q12 q201) rfl rfl rfl (by decide +kernel) ⟨Nat.le_of_ble_eq_true rfl, Nat.le_of_ble_eq_true rfl⟩) hP hD hK hS hA rfl rfl rfl rfl (by decide) rfl rfl rfl hl.1 rfl (Nat.le_of_ble_eq_true rfl) dL_law_236 ⟨Nat.le_of_ble_eq_true rfl, Nat.le_of_ble_eq_true rfl⟩ (fun r2 u2 H locs hw2 hP hD hS => ?_)
  obtain ⟨sz2, gd2, by_2, cd2, mtr2, mver2, op2, sn2, ch2, oz2, og2, ob2, oc2⟩ := u2
  have hP : va_P D vwCl (wX ad cI cZ (home1, n1, lp1, lb1, tr1, ver1, tx1, sg1, sb1) ++ wM bd cI cZ (sz2, gd2, by_2, cd2, mtr2, mver2, op2, sn2, ch2, oz2, og2, ob2, oc2)) H := hP
  have hD : va_D (fun q : Nat => s.heap.size ≤ q) (wX ad cI cZ (home1, n1, lp1, lb1, tr1, ver1, tx1, sg1, sb1) ++ wM bd cI cZ (sz2, gd2, by_2, cd2, mtr2, mver2, op2, sn2, ch2, oz2, og2, ob2, oc2)) := hD
  have hE := rl_begin hR 
  rw [← hw1, ← hw2] at hE
  refine lv_icmp_eq (tgt := 410) hx hb dL_law_239 (by decide) (fun hc => ?_) (fun hc => ?_)
  · refine lv_iinc (v := nI (i + 4)) (lv' := [(3, .int (nI (i + 4))), (0, .ref b), (1, .ref (ad 0)), (2, .ref (bd 0))]) hx hb dL_law_410 hl (k := 3) rfl (nI_add _ 4) (by decide) rfl (fun ls hl => ?_)
    refine lv_goto (tgt := 18) hx hb dL_law_413 (by decide) ?_
    exact ih (k - 4) (by omega) _ _ _ ⟨i + 4, (home1, n1, lp1, lb1, tr1, ver1, tx1, sg1, sb1), (sz2, gd2, by_2, cd2, mtr2, mver2, op2, sn2, ch2, oz2, og2, ob2, oc2), by omega, by omega, hE.2, hP, hD, hS, lv_sub hl [1, 2, 3, 0] rfl⟩
  · exact absurd hE.1 hc
set_option maxHeartbeats 4000000 in
set_option maxRecDepth 100000 in
/-- the law's case 4 -/
theorem law_commit {p : Program} {e : Env} {s : State} {m : MethodId} {below : List Frame} {meth : Method} {c : Code} (l : Launch) {b L : Nat} {xs : Nat → Int32} (hL : L ≤ 256) (C0 : lw_At p s m meth c b L xs) {D : va_G} {ad bd : Nat → Nat} {cI cZ : ClassId} (hK : va_K D vwCl (tyW cI cZ) s) (k : Nat) (ih : ∀ k1 : Nat, k1 < k → ∀ (H : Heap) (locs : List Loc) (ls : Array Slot), (∃ (i : Nat) (u : CFt) (v : MDt), i + k1 = L + 4 ∧ i ≤ L ∧ rl u v ∧ va_P D vwCl (wX ad cI cZ u ++ wM bd cI cZ v) H ∧ va_D (fun q : Nat => s.heap.size ≤ q) (wX ad cI cZ u ++ wM bd cI cZ v) ∧ va_S (fun q : Nat => s.heap.size ≤ q) s.heap H locs ∧ lv_has ls 4 [(0, .ref b), (1, .ref (ad 0)), (2, .ref (bd 0)), (3, .int (nI i))]) → W p l e room_1 s m #[Value.ref b] below meth c H locs 14 698 (lw_Z below #[Value.ref b] s) (F0 m 18 ls [])) (i : Nat) (u : CFt) (v : MDt) (hik : i + k = L + 4) (hi : i + 4 ≤ L) (hR : rl u v) (H : Heap) (locs : List Loc) (ls : Array Slot) (hP : va_P D vwCl (wX ad cI cZ u ++ wM bd cI cZ v) H) (hD : va_D (fun q : Nat => s.heap.size ≤ q) (wX ad cI cZ u ++ wM bd cI cZ v)) (hS : va_S (fun q : Nat => s.heap.size ≤ q) s.heap H locs) (hl : lv_has ls 4 [(0, .ref b), (1, .ref (ad 0)), (2, .ref (bd 0)), (3, .int (nI i))]) : W p l e room_1 s m #[Value.ref b] below meth c H locs 14 698 (lw_Z below #[Value.ref b] s) (F0 m 244 ls []) := by
  obtain ⟨hx, hb, hr, hml, hown, hts0, hX, hbl, hlocks, hgv⟩ := C0
  have hts : ∀ w ∈ lw_all, w.before #[Value.ref b] s = true := fun w h => hts0 w (lw_all_tbl h)
  have hown : s.vm.findClass "CardFilesLaw" = some m.cls := hown
  have hA : ∀ q : Nat, s.heap.size ≤ q → (fun q : Nat => s.heap.size ≤ q) q := fun _ h => h
  have hbA : ¬ (fun q : Nat => s.heap.size ≤ q) b := Nat.not_le.mpr hbl
  obtain ⟨home, n, lp, lb, tr, ver, tx, sg, sb⟩ := u
  obtain ⟨sz, gd, by_, cd, mtr, mver, op, sn, ch, oz, og, ob, oc⟩ := v
  refine lv_aload_n hx hb dL_law_244 rfl (lv_at hl 1 rfl) ?_
  refine w_calli (wr := wM bd cI cZ (sz, gd, by_, cd, mtr, mver, op, sn, ch, oz, og, ob, oc)) (mX0_commit l D ad cI cZ (home, n, lp, lb, tr, ver, tx, sg, sb) (rl_cfok hR)) [0, 1, 2, 3, 4, 5] [6, 7, 8, 9, 10, 11, 12, 13] 0 ⟨hx, hb, hml, hown, hts⟩ (cwV 0 hts (lw_V q99 q100 q101 q11 q102) rfl rfl rfl (by decide +kernel) ⟨Nat.le_of_ble_eq_true rfl, Nat.le_of_ble_eq_true rfl⟩) hP hD hK hS hA rfl rfl rfl rfl (by decide) rfl rfl rfl hl.1 rfl (Nat.le_of_ble_eq_true rfl) dL_law_245 ⟨Nat.le_of_ble_eq_true rfl, Nat.le_of_ble_eq_true rfl⟩ (fun r1 u1 H locs hw1 hP hD hS => ?_)
  obtain ⟨home1, n1, lp1, lb1, tr1, ver1, tx1, sg1, sb1⟩ := u1
  have hP : va_P D vwCl (wM bd cI cZ (sz, gd, by_, cd, mtr, mver, op, sn, ch, oz, og, ob, oc) ++ wX ad cI cZ (home1, n1, lp1, lb1, tr1, ver1, tx1, sg1, sb1)) H := hP
  have hD : va_D (fun q : Nat => s.heap.size ≤ q) (wM bd cI cZ (sz, gd, by_, cd, mtr, mver, op, sn, ch, oz, og, ob, oc) ++ wX ad cI cZ (home1, n1, lp1, lb1, tr1, ver1, tx1, sg1, sb1)) := hD
  refine lv_aload_n hx hb dL_law_248 rfl (lv_at hl 2 rfl) ?_
  refine w_calli (wr := wX ad cI cZ (home1, n1, lp1, lb1, tr1, ver1, tx1, sg1, sb1)) (mX1_commit l D bd cI cZ (sz, gd, by_, cd, mtr, mver, op, sn, ch, oz, og, ob, oc) ) [0, 1, 2, 3, 4, 5, 6, 7] [8, 9, 10, 11, 12, 13] 0 ⟨hx, hb, hml, hown, hts⟩ (cwV 0 hts (lw_V q202 q203 q204 q12 q205) rfl rfl rfl (by decide +kernel) ⟨Nat.le_of_ble_eq_true rfl, Nat.le_of_ble_eq_true rfl⟩) hP hD hK hS hA rfl rfl rfl rfl (by decide) rfl rfl rfl hl.1 rfl (Nat.le_of_ble_eq_true rfl) dL_law_249 ⟨Nat.le_of_ble_eq_true rfl, Nat.le_of_ble_eq_true rfl⟩ (fun r2 u2 H locs hw2 hP hD hS => ?_)
  obtain ⟨sz2, gd2, by_2, cd2, mtr2, mver2, op2, sn2, ch2, oz2, og2, ob2, oc2⟩ := u2
  have hP : va_P D vwCl (wX ad cI cZ (home1, n1, lp1, lb1, tr1, ver1, tx1, sg1, sb1) ++ wM bd cI cZ (sz2, gd2, by_2, cd2, mtr2, mver2, op2, sn2, ch2, oz2, og2, ob2, oc2)) H := hP
  have hD : va_D (fun q : Nat => s.heap.size ≤ q) (wX ad cI cZ (home1, n1, lp1, lb1, tr1, ver1, tx1, sg1, sb1) ++ wM bd cI cZ (sz2, gd2, by_2, cd2, mtr2, mver2, op2, sn2, ch2, oz2, og2, ob2, oc2)) := hD
  have hE := rl_commit hR 
  rw [← hw1, ← hw2] at hE
  refine lv_icmp_eq (tgt := 410) hx hb dL_law_252 (by decide) (fun hc => ?_) (fun hc => ?_)
  · refine lv_iinc (v := nI (i + 4)) (lv' := [(3, .int (nI (i + 4))), (0, .ref b), (1, .ref (ad 0)), (2, .ref (bd 0))]) hx hb dL_law_410 hl (k := 3) rfl (nI_add _ 4) (by decide) rfl (fun ls hl => ?_)
    refine lv_goto (tgt := 18) hx hb dL_law_413 (by decide) ?_
    exact ih (k - 4) (by omega) _ _ _ ⟨i + 4, (home1, n1, lp1, lb1, tr1, ver1, tx1, sg1, sb1), (sz2, gd2, by_2, cd2, mtr2, mver2, op2, sn2, ch2, oz2, og2, ob2, oc2), by omega, by omega, hE.2, hP, hD, hS, lv_sub hl [1, 2, 3, 0] rfl⟩
  · exact absurd hE.1 hc
set_option maxHeartbeats 4000000 in
set_option maxRecDepth 100000 in
/-- the law's case 5 -/
theorem law_abort {p : Program} {e : Env} {s : State} {m : MethodId} {below : List Frame} {meth : Method} {c : Code} (l : Launch) {b L : Nat} {xs : Nat → Int32} (hL : L ≤ 256) (C0 : lw_At p s m meth c b L xs) {D : va_G} {ad bd : Nat → Nat} {cI cZ : ClassId} (hK : va_K D vwCl (tyW cI cZ) s) (k : Nat) (ih : ∀ k1 : Nat, k1 < k → ∀ (H : Heap) (locs : List Loc) (ls : Array Slot), (∃ (i : Nat) (u : CFt) (v : MDt), i + k1 = L + 4 ∧ i ≤ L ∧ rl u v ∧ va_P D vwCl (wX ad cI cZ u ++ wM bd cI cZ v) H ∧ va_D (fun q : Nat => s.heap.size ≤ q) (wX ad cI cZ u ++ wM bd cI cZ v) ∧ va_S (fun q : Nat => s.heap.size ≤ q) s.heap H locs ∧ lv_has ls 4 [(0, .ref b), (1, .ref (ad 0)), (2, .ref (bd 0)), (3, .int (nI i))]) → W p l e room_1 s m #[Value.ref b] below meth c H locs 14 698 (lw_Z below #[Value.ref b] s) (F0 m 18 ls [])) (i : Nat) (u : CFt) (v : MDt) (hik : i + k = L + 4) (hi : i + 4 ≤ L) (hR : rl u v) (H : Heap) (locs : List Loc) (ls : Array Slot) (hP : va_P D vwCl (wX ad cI cZ u ++ wM bd cI cZ v) H) (hD : va_D (fun q : Nat => s.heap.size ≤ q) (wX ad cI cZ u ++ wM bd cI cZ v)) (hS : va_S (fun q : Nat => s.heap.size ≤ q) s.heap H locs) (hl : lv_has ls 4 [(0, .ref b), (1, .ref (ad 0)), (2, .ref (bd 0)), (3, .int (nI i))]) : W p l e room_1 s m #[Value.ref b] below meth c H locs 14 698 (lw_Z below #[Value.ref b] s) (F0 m 257 ls []) := by
  obtain ⟨hx, hb, hr, hml, hown, hts0, hX, hbl, hlocks, hgv⟩ := C0
  have hts : ∀ w ∈ lw_all, w.before #[Value.ref b] s = true := fun w h => hts0 w (lw_all_tbl h)
  have hown : s.vm.findClass "CardFilesLaw" = some m.cls := hown
  have hA : ∀ q : Nat, s.heap.size ≤ q → (fun q : Nat => s.heap.size ≤ q) q := fun _ h => h
  have hbA : ¬ (fun q : Nat => s.heap.size ≤ q) b := Nat.not_le.mpr hbl
  obtain ⟨home, n, lp, lb, tr, ver, tx, sg, sb⟩ := u
  obtain ⟨sz, gd, by_, cd, mtr, mver, op, sn, ch, oz, og, ob, oc⟩ := v
  refine lv_aload_n hx hb dL_law_257 rfl (lv_at hl 1 rfl) ?_
  refine w_calli (wr := wM bd cI cZ (sz, gd, by_, cd, mtr, mver, op, sn, ch, oz, og, ob, oc)) (mX0_abort l D ad cI cZ (home, n, lp, lb, tr, ver, tx, sg, sb) (rl_cfok hR)) [0, 1, 2, 3, 4, 5] [6, 7, 8, 9, 10, 11, 12, 13] 0 ⟨hx, hb, hml, hown, hts⟩ (cwV 0 hts (lw_V q103 q104 q105 q11 q106) rfl rfl rfl (by decide +kernel) ⟨Nat.le_of_ble_eq_true rfl, Nat.le_of_ble_eq_true rfl⟩) hP hD hK hS hA rfl rfl rfl rfl (by decide) rfl rfl rfl hl.1 rfl (Nat.le_of_ble_eq_true rfl) dL_law_258 ⟨Nat.le_of_ble_eq_true rfl, Nat.le_of_ble_eq_true rfl⟩ (fun r1 u1 H locs hw1 hP hD hS => ?_)
  obtain ⟨home1, n1, lp1, lb1, tr1, ver1, tx1, sg1, sb1⟩ := u1
  have hP : va_P D vwCl (wM bd cI cZ (sz, gd, by_, cd, mtr, mver, op, sn, ch, oz, og, ob, oc) ++ wX ad cI cZ (home1, n1, lp1, lb1, tr1, ver1, tx1, sg1, sb1)) H := hP
  have hD : va_D (fun q : Nat => s.heap.size ≤ q) (wM bd cI cZ (sz, gd, by_, cd, mtr, mver, op, sn, ch, oz, og, ob, oc) ++ wX ad cI cZ (home1, n1, lp1, lb1, tr1, ver1, tx1, sg1, sb1)) := hD
  refine lv_aload_n hx hb dL_law_261 rfl (lv_at hl 2 rfl) ?_
  refine w_calli (wr := wX ad cI cZ (home1, n1, lp1, lb1, tr1, ver1, tx1, sg1, sb1)) (mX1_abort l D bd cI cZ (sz, gd, by_, cd, mtr, mver, op, sn, ch, oz, og, ob, oc) ) [0, 1, 2, 3, 4, 5, 6, 7] [8, 9, 10, 11, 12, 13] 0 ⟨hx, hb, hml, hown, hts⟩ (cwV 0 hts (lw_V q206 q207 q208 q12 q209) rfl rfl rfl (by decide +kernel) ⟨Nat.le_of_ble_eq_true rfl, Nat.le_of_ble_eq_true rfl⟩) hP hD hK hS hA rfl rfl rfl rfl (by decide) rfl rfl rfl hl.1 rfl (Nat.le_of_ble_eq_true rfl) dL_law_262 ⟨Nat.le_of_ble_eq_true rfl, Nat.le_of_ble_eq_true rfl⟩ (fun r2 u2 H locs hw2 hP hD hS => ?_)
  obtain ⟨sz2, gd2, by_2, cd2, mtr2, mver2, op2, sn2, ch2, oz2, og2, ob2, oc2⟩ := u2
  have hP : va_P D vwCl (wX ad cI cZ (home1, n1, lp1, lb1, tr1, ver1, tx1, sg1, sb1) ++ wM bd cI cZ (sz2, gd2, by_2, cd2, mtr2, mver2, op2, sn2, ch2, oz2, og2, ob2, oc2)) H := hP
  have hD : va_D (fun q : Nat => s.heap.size ≤ q) (wX ad cI cZ (home1, n1, lp1, lb1, tr1, ver1, tx1, sg1, sb1) ++ wM bd cI cZ (sz2, gd2, by_2, cd2, mtr2, mver2, op2, sn2, ch2, oz2, og2, ob2, oc2)) := hD
  have hE := rl_abort hR 
  rw [← hw1, ← hw2] at hE
  refine lv_icmp_eq (tgt := 410) hx hb dL_law_265 (by decide) (fun hc => ?_) (fun hc => ?_)
  · refine lv_iinc (v := nI (i + 4)) (lv' := [(3, .int (nI (i + 4))), (0, .ref b), (1, .ref (ad 0)), (2, .ref (bd 0))]) hx hb dL_law_410 hl (k := 3) rfl (nI_add _ 4) (by decide) rfl (fun ls hl => ?_)
    refine lv_goto (tgt := 18) hx hb dL_law_413 (by decide) ?_
    exact ih (k - 4) (by omega) _ _ _ ⟨i + 4, (home1, n1, lp1, lb1, tr1, ver1, tx1, sg1, sb1), (sz2, gd2, by_2, cd2, mtr2, mver2, op2, sn2, ch2, oz2, og2, ob2, oc2), by omega, by omega, hE.2, hP, hD, hS, lv_sub hl [1, 2, 3, 0] rfl⟩
  · exact absurd hE.1 hc
set_option maxHeartbeats 4000000 in
set_option maxRecDepth 100000 in
/-- the law's case 6 -/
theorem law_verify {p : Program} {e : Env} {s : State} {m : MethodId} {below : List Frame} {meth : Method} {c : Code} (l : Launch) {b L : Nat} {xs : Nat → Int32} (hL : L ≤ 256) (C0 : lw_At p s m meth c b L xs) {D : va_G} {ad bd : Nat → Nat} {cI cZ : ClassId} (hK : va_K D vwCl (tyW cI cZ) s) (k : Nat) (ih : ∀ k1 : Nat, k1 < k → ∀ (H : Heap) (locs : List Loc) (ls : Array Slot), (∃ (i : Nat) (u : CFt) (v : MDt), i + k1 = L + 4 ∧ i ≤ L ∧ rl u v ∧ va_P D vwCl (wX ad cI cZ u ++ wM bd cI cZ v) H ∧ va_D (fun q : Nat => s.heap.size ≤ q) (wX ad cI cZ u ++ wM bd cI cZ v) ∧ va_S (fun q : Nat => s.heap.size ≤ q) s.heap H locs ∧ lv_has ls 4 [(0, .ref b), (1, .ref (ad 0)), (2, .ref (bd 0)), (3, .int (nI i))]) → W p l e room_1 s m #[Value.ref b] below meth c H locs 14 698 (lw_Z below #[Value.ref b] s) (F0 m 18 ls [])) (i : Nat) (u : CFt) (v : MDt) (hik : i + k = L + 4) (hi : i + 4 ≤ L) (hR : rl u v) (H : Heap) (locs : List Loc) (ls : Array Slot) (hP : va_P D vwCl (wX ad cI cZ u ++ wM bd cI cZ v) H) (hD : va_D (fun q : Nat => s.heap.size ≤ q) (wX ad cI cZ u ++ wM bd cI cZ v)) (hS : va_S (fun q : Nat => s.heap.size ≤ q) s.heap H locs) (hl : lv_has ls 4 [(0, .ref b), (1, .ref (ad 0)), (2, .ref (bd 0)), (3, .int (nI i))]) : W p l e room_1 s m #[Value.ref b] below meth c H locs 14 698 (lw_Z below #[Value.ref b] s) (F0 m 270 ls []) := by
  obtain ⟨hx, hb, hr, hml, hown, hts0, hX, hbl, hlocks, hgv⟩ := C0
  have hts : ∀ w ∈ lw_all, w.before #[Value.ref b] s = true := fun w h => hts0 w (lw_all_tbl h)
  have hown : s.vm.findClass "CardFilesLaw" = some m.cls := hown
  have hA : ∀ q : Nat, s.heap.size ≤ q → (fun q : Nat => s.heap.size ≤ q) q := fun _ h => h
  have hbA : ¬ (fun q : Nat => s.heap.size ≤ q) b := Nat.not_le.mpr hbl
  obtain ⟨home, n, lp, lb, tr, ver, tx, sg, sb⟩ := u
  obtain ⟨sz, gd, by_, cd, mtr, mver, op, sn, ch, oz, og, ob, oc⟩ := v
  refine lv_aload_n hx hb dL_law_270 rfl (lv_at hl 1 rfl) ?_
  refine lv_aload_n hx hb dL_law_271 rfl (lv_at hl 0 rfl) ?_
  refine lv_iload_n hx hb dL_law_272 rfl (lv_at hl 3 rfl) ?_
  refine lv_iconst (v := nI 1) hx hb dL_law_273 (by rfl) ?_
  refine lv_iadd hx hb dL_law_274 ?_
  refine w_top (y := nI (i + 1)) (nI_add i 1) ?_
  refine na_sld hx hb hX hbl hbA hS (j := i + 1) (by omega) (by omega) dL_law_275 ?_
  refine w_calli (wr := wM bd cI cZ (sz, gd, by_, cd, mtr, mver, op, sn, ch, oz, og, ob, oc)) (mX0_verify l D ad cI cZ (home, n, lp, lb, tr, ver, tx, sg, sb) (xs (i + 1)) (rl_cfok hR)) [0, 1, 2, 3, 4, 5] [6, 7, 8, 9, 10, 11, 12, 13] 0 ⟨hx, hb, hml, hown, hts⟩ (cwV 1 hts (lw_V q107 q108 q109 q11 q110) rfl rfl rfl (by decide +kernel) ⟨Nat.le_of_ble_eq_true rfl, Nat.le_of_ble_eq_true rfl⟩) hP hD hK hS hA rfl rfl rfl rfl (by decide) rfl rfl rfl hl.1 rfl (Nat.le_of_ble_eq_true rfl) dL_law_276 ⟨Nat.le_of_ble_eq_true rfl, Nat.le_of_ble_eq_true rfl⟩ (fun r1 u1 H locs hw1 hP hD hS => ?_)
  obtain ⟨home1, n1, lp1, lb1, tr1, ver1, tx1, sg1, sb1⟩ := u1
  have hP : va_P D vwCl (wM bd cI cZ (sz, gd, by_, cd, mtr, mver, op, sn, ch, oz, og, ob, oc) ++ wX ad cI cZ (home1, n1, lp1, lb1, tr1, ver1, tx1, sg1, sb1)) H := hP
  have hD : va_D (fun q : Nat => s.heap.size ≤ q) (wM bd cI cZ (sz, gd, by_, cd, mtr, mver, op, sn, ch, oz, og, ob, oc) ++ wX ad cI cZ (home1, n1, lp1, lb1, tr1, ver1, tx1, sg1, sb1)) := hD
  refine lv_aload_n hx hb dL_law_279 rfl (lv_at hl 2 rfl) ?_
  refine lv_aload_n hx hb dL_law_280 rfl (lv_at hl 0 rfl) ?_
  refine lv_iload_n hx hb dL_law_281 rfl (lv_at hl 3 rfl) ?_
  refine lv_iconst (v := nI 1) hx hb dL_law_282 (by rfl) ?_
  refine lv_iadd hx hb dL_law_283 ?_
  refine w_top (y := nI (i + 1)) (nI_add i 1) ?_
  refine na_sld hx hb hX hbl hbA hS (j := i + 1) (by omega) (by omega) dL_law_284 ?_
  refine w_calli (wr := wX ad cI cZ (home1, n1, lp1, lb1, tr1, ver1, tx1, sg1, sb1)) (mX1_verify l D bd cI cZ (sz, gd, by_, cd, mtr, mver, op, sn, ch, oz, og, ob, oc) (xs (i + 1))) [0, 1, 2, 3, 4, 5, 6, 7] [8, 9, 10, 11, 12, 13] 0 ⟨hx, hb, hml, hown, hts⟩ (cwV 1 hts (lw_V q210 q211 q212 q12 q213) rfl rfl rfl (by decide +kernel) ⟨Nat.le_of_ble_eq_true rfl, Nat.le_of_ble_eq_true rfl⟩) hP hD hK hS hA rfl rfl rfl rfl (by decide) rfl rfl rfl hl.1 rfl (Nat.le_of_ble_eq_true rfl) dL_law_285 ⟨Nat.le_of_ble_eq_true rfl, Nat.le_of_ble_eq_true rfl⟩ (fun r2 u2 H locs hw2 hP hD hS => ?_)
  obtain ⟨sz2, gd2, by_2, cd2, mtr2, mver2, op2, sn2, ch2, oz2, og2, ob2, oc2⟩ := u2
  have hP : va_P D vwCl (wX ad cI cZ (home1, n1, lp1, lb1, tr1, ver1, tx1, sg1, sb1) ++ wM bd cI cZ (sz2, gd2, by_2, cd2, mtr2, mver2, op2, sn2, ch2, oz2, og2, ob2, oc2)) H := hP
  have hD : va_D (fun q : Nat => s.heap.size ≤ q) (wX ad cI cZ (home1, n1, lp1, lb1, tr1, ver1, tx1, sg1, sb1) ++ wM bd cI cZ (sz2, gd2, by_2, cd2, mtr2, mver2, op2, sn2, ch2, oz2, og2, ob2, oc2)) := hD
  have hE := rl_verify hR (xs (i + 1))
  rw [← hw1, ← hw2] at hE
  refine lv_icmp_eq (tgt := 410) hx hb dL_law_288 (by decide) (fun hc => ?_) (fun hc => ?_)
  · refine lv_iinc (v := nI (i + 4)) (lv' := [(3, .int (nI (i + 4))), (0, .ref b), (1, .ref (ad 0)), (2, .ref (bd 0))]) hx hb dL_law_410 hl (k := 3) rfl (nI_add _ 4) (by decide) rfl (fun ls hl => ?_)
    refine lv_goto (tgt := 18) hx hb dL_law_413 (by decide) ?_
    exact ih (k - 4) (by omega) _ _ _ ⟨i + 4, (home1, n1, lp1, lb1, tr1, ver1, tx1, sg1, sb1), (sz2, gd2, by_2, cd2, mtr2, mver2, op2, sn2, ch2, oz2, og2, ob2, oc2), by omega, by omega, hE.2, hP, hD, hS, lv_sub hl [1, 2, 3, 0] rfl⟩
  · exact absurd hE.1 hc
set_option maxHeartbeats 4000000 in
set_option maxRecDepth 100000 in
/-- the law's case 7 -/
theorem law_change {p : Program} {e : Env} {s : State} {m : MethodId} {below : List Frame} {meth : Method} {c : Code} (l : Launch) {b L : Nat} {xs : Nat → Int32} (hL : L ≤ 256) (C0 : lw_At p s m meth c b L xs) {D : va_G} {ad bd : Nat → Nat} {cI cZ : ClassId} (hK : va_K D vwCl (tyW cI cZ) s) (k : Nat) (ih : ∀ k1 : Nat, k1 < k → ∀ (H : Heap) (locs : List Loc) (ls : Array Slot), (∃ (i : Nat) (u : CFt) (v : MDt), i + k1 = L + 4 ∧ i ≤ L ∧ rl u v ∧ va_P D vwCl (wX ad cI cZ u ++ wM bd cI cZ v) H ∧ va_D (fun q : Nat => s.heap.size ≤ q) (wX ad cI cZ u ++ wM bd cI cZ v) ∧ va_S (fun q : Nat => s.heap.size ≤ q) s.heap H locs ∧ lv_has ls 4 [(0, .ref b), (1, .ref (ad 0)), (2, .ref (bd 0)), (3, .int (nI i))]) → W p l e room_1 s m #[Value.ref b] below meth c H locs 14 698 (lw_Z below #[Value.ref b] s) (F0 m 18 ls [])) (i : Nat) (u : CFt) (v : MDt) (hik : i + k = L + 4) (hi : i + 4 ≤ L) (hR : rl u v) (H : Heap) (locs : List Loc) (ls : Array Slot) (hP : va_P D vwCl (wX ad cI cZ u ++ wM bd cI cZ v) H) (hD : va_D (fun q : Nat => s.heap.size ≤ q) (wX ad cI cZ u ++ wM bd cI cZ v)) (hS : va_S (fun q : Nat => s.heap.size ≤ q) s.heap H locs) (hl : lv_has ls 4 [(0, .ref b), (1, .ref (ad 0)), (2, .ref (bd 0)), (3, .int (nI i))]) : W p l e room_1 s m #[Value.ref b] below meth c H locs 14 698 (lw_Z below #[Value.ref b] s) (F0 m 293 ls []) := by
  obtain ⟨hx, hb, hr, hml, hown, hts0, hX, hbl, hlocks, hgv⟩ := C0
  have hts : ∀ w ∈ lw_all, w.before #[Value.ref b] s = true := fun w h => hts0 w (lw_all_tbl h)
  have hown : s.vm.findClass "CardFilesLaw" = some m.cls := hown
  have hA : ∀ q : Nat, s.heap.size ≤ q → (fun q : Nat => s.heap.size ≤ q) q := fun _ h => h
  have hbA : ¬ (fun q : Nat => s.heap.size ≤ q) b := Nat.not_le.mpr hbl
  obtain ⟨home, n, lp, lb, tr, ver, tx, sg, sb⟩ := u
  obtain ⟨sz, gd, by_, cd, mtr, mver, op, sn, ch, oz, og, ob, oc⟩ := v
  refine lv_aload_n hx hb dL_law_293 rfl (lv_at hl 1 rfl) ?_
  refine lv_aload_n hx hb dL_law_294 rfl (lv_at hl 0 rfl) ?_
  refine lv_iload_n hx hb dL_law_295 rfl (lv_at hl 3 rfl) ?_
  refine lv_iconst (v := nI 1) hx hb dL_law_296 (by rfl) ?_
  refine lv_iadd hx hb dL_law_297 ?_
  refine w_top (y := nI (i + 1)) (nI_add i 1) ?_
  refine na_sld hx hb hX hbl hbA hS (j := i + 1) (by omega) (by omega) dL_law_298 ?_
  refine w_calli (wr := wM bd cI cZ (sz, gd, by_, cd, mtr, mver, op, sn, ch, oz, og, ob, oc)) (mX0_change l D ad cI cZ (home, n, lp, lb, tr, ver, tx, sg, sb) (xs (i + 1)) (rl_cfok hR)) [0, 1, 2, 3, 4, 5] [6, 7, 8, 9, 10, 11, 12, 13] 0 ⟨hx, hb, hml, hown, hts⟩ (cwV 1 hts (lw_V q111 q112 q113 q11 q114) rfl rfl rfl (by decide +kernel) ⟨Nat.le_of_ble_eq_true rfl, Nat.le_of_ble_eq_true rfl⟩) hP hD hK hS hA rfl rfl rfl rfl (by decide) rfl rfl rfl hl.1 rfl (Nat.le_of_ble_eq_true rfl) dL_law_299 ⟨Nat.le_of_ble_eq_true rfl, Nat.le_of_ble_eq_true rfl⟩ (fun r1 u1 H locs hw1 hP hD hS => ?_)
  obtain ⟨home1, n1, lp1, lb1, tr1, ver1, tx1, sg1, sb1⟩ := u1
  have hP : va_P D vwCl (wM bd cI cZ (sz, gd, by_, cd, mtr, mver, op, sn, ch, oz, og, ob, oc) ++ wX ad cI cZ (home1, n1, lp1, lb1, tr1, ver1, tx1, sg1, sb1)) H := hP
  have hD : va_D (fun q : Nat => s.heap.size ≤ q) (wM bd cI cZ (sz, gd, by_, cd, mtr, mver, op, sn, ch, oz, og, ob, oc) ++ wX ad cI cZ (home1, n1, lp1, lb1, tr1, ver1, tx1, sg1, sb1)) := hD
  refine lv_aload_n hx hb dL_law_302 rfl (lv_at hl 2 rfl) ?_
  refine lv_aload_n hx hb dL_law_303 rfl (lv_at hl 0 rfl) ?_
  refine lv_iload_n hx hb dL_law_304 rfl (lv_at hl 3 rfl) ?_
  refine lv_iconst (v := nI 1) hx hb dL_law_305 (by rfl) ?_
  refine lv_iadd hx hb dL_law_306 ?_
  refine w_top (y := nI (i + 1)) (nI_add i 1) ?_
  refine na_sld hx hb hX hbl hbA hS (j := i + 1) (by omega) (by omega) dL_law_307 ?_
  refine w_calli (wr := wX ad cI cZ (home1, n1, lp1, lb1, tr1, ver1, tx1, sg1, sb1)) (mX1_change l D bd cI cZ (sz, gd, by_, cd, mtr, mver, op, sn, ch, oz, og, ob, oc) (xs (i + 1))) [0, 1, 2, 3, 4, 5, 6, 7] [8, 9, 10, 11, 12, 13] 0 ⟨hx, hb, hml, hown, hts⟩ (cwV 1 hts (lw_V q214 q215 q216 q12 q217) rfl rfl rfl (by decide +kernel) ⟨Nat.le_of_ble_eq_true rfl, Nat.le_of_ble_eq_true rfl⟩) hP hD hK hS hA rfl rfl rfl rfl (by decide) rfl rfl rfl hl.1 rfl (Nat.le_of_ble_eq_true rfl) dL_law_308 ⟨Nat.le_of_ble_eq_true rfl, Nat.le_of_ble_eq_true rfl⟩ (fun r2 u2 H locs hw2 hP hD hS => ?_)
  obtain ⟨sz2, gd2, by_2, cd2, mtr2, mver2, op2, sn2, ch2, oz2, og2, ob2, oc2⟩ := u2
  have hP : va_P D vwCl (wX ad cI cZ (home1, n1, lp1, lb1, tr1, ver1, tx1, sg1, sb1) ++ wM bd cI cZ (sz2, gd2, by_2, cd2, mtr2, mver2, op2, sn2, ch2, oz2, og2, ob2, oc2)) H := hP
  have hD : va_D (fun q : Nat => s.heap.size ≤ q) (wX ad cI cZ (home1, n1, lp1, lb1, tr1, ver1, tx1, sg1, sb1) ++ wM bd cI cZ (sz2, gd2, by_2, cd2, mtr2, mver2, op2, sn2, ch2, oz2, og2, ob2, oc2)) := hD
  have hE := rl_change hR (xs (i + 1))
  rw [← hw1, ← hw2] at hE
  refine lv_icmp_eq (tgt := 410) hx hb dL_law_311 (by decide) (fun hc => ?_) (fun hc => ?_)
  · refine lv_iinc (v := nI (i + 4)) (lv' := [(3, .int (nI (i + 4))), (0, .ref b), (1, .ref (ad 0)), (2, .ref (bd 0))]) hx hb dL_law_410 hl (k := 3) rfl (nI_add _ 4) (by decide) rfl (fun ls hl => ?_)
    refine lv_goto (tgt := 18) hx hb dL_law_413 (by decide) ?_
    exact ih (k - 4) (by omega) _ _ _ ⟨i + 4, (home1, n1, lp1, lb1, tr1, ver1, tx1, sg1, sb1), (sz2, gd2, by_2, cd2, mtr2, mver2, op2, sn2, ch2, oz2, og2, ob2, oc2), by omega, by omega, hE.2, hP, hD, hS, lv_sub hl [1, 2, 3, 0] rfl⟩
  · exact absurd hE.1 hc
set_option maxHeartbeats 4000000 in
set_option maxRecDepth 100000 in
/-- the law's case 8 -/
theorem law_power {p : Program} {e : Env} {s : State} {m : MethodId} {below : List Frame} {meth : Method} {c : Code} (l : Launch) {b L : Nat} {xs : Nat → Int32} (hL : L ≤ 256) (C0 : lw_At p s m meth c b L xs) {D : va_G} {ad bd : Nat → Nat} {cI cZ : ClassId} (hK : va_K D vwCl (tyW cI cZ) s) (k : Nat) (ih : ∀ k1 : Nat, k1 < k → ∀ (H : Heap) (locs : List Loc) (ls : Array Slot), (∃ (i : Nat) (u : CFt) (v : MDt), i + k1 = L + 4 ∧ i ≤ L ∧ rl u v ∧ va_P D vwCl (wX ad cI cZ u ++ wM bd cI cZ v) H ∧ va_D (fun q : Nat => s.heap.size ≤ q) (wX ad cI cZ u ++ wM bd cI cZ v) ∧ va_S (fun q : Nat => s.heap.size ≤ q) s.heap H locs ∧ lv_has ls 4 [(0, .ref b), (1, .ref (ad 0)), (2, .ref (bd 0)), (3, .int (nI i))]) → W p l e room_1 s m #[Value.ref b] below meth c H locs 14 698 (lw_Z below #[Value.ref b] s) (F0 m 18 ls [])) (i : Nat) (u : CFt) (v : MDt) (hik : i + k = L + 4) (hi : i + 4 ≤ L) (hR : rl u v) (H : Heap) (locs : List Loc) (ls : Array Slot) (hP : va_P D vwCl (wX ad cI cZ u ++ wM bd cI cZ v) H) (hD : va_D (fun q : Nat => s.heap.size ≤ q) (wX ad cI cZ u ++ wM bd cI cZ v)) (hS : va_S (fun q : Nat => s.heap.size ≤ q) s.heap H locs) (hl : lv_has ls 4 [(0, .ref b), (1, .ref (ad 0)), (2, .ref (bd 0)), (3, .int (nI i))]) : W p l e room_1 s m #[Value.ref b] below meth c H locs 14 698 (lw_Z below #[Value.ref b] s) (F0 m 316 ls []) := by
  obtain ⟨hx, hb, hr, hml, hown, hts0, hX, hbl, hlocks, hgv⟩ := C0
  have hts : ∀ w ∈ lw_all, w.before #[Value.ref b] s = true := fun w h => hts0 w (lw_all_tbl h)
  have hown : s.vm.findClass "CardFilesLaw" = some m.cls := hown
  have hA : ∀ q : Nat, s.heap.size ≤ q → (fun q : Nat => s.heap.size ≤ q) q := fun _ h => h
  have hbA : ¬ (fun q : Nat => s.heap.size ≤ q) b := Nat.not_le.mpr hbl
  obtain ⟨home, n, lp, lb, tr, ver, tx, sg, sb⟩ := u
  obtain ⟨sz, gd, by_, cd, mtr, mver, op, sn, ch, oz, og, ob, oc⟩ := v
  refine lv_aload_n hx hb dL_law_316 rfl (lv_at hl 1 rfl) ?_
  refine w_callv (wr := wM bd cI cZ (sz, gd, by_, cd, mtr, mver, op, sn, ch, oz, og, ob, oc)) (mX0_power l D ad cI cZ (home, n, lp, lb, tr, ver, tx, sg, sb) (rl_cfok hR)) [0, 1, 2, 3, 4, 5] [6, 7, 8, 9, 10, 11, 12, 13] 0 ⟨hx, hb, hml, hown, hts⟩ (cwV 0 hts (lw_V q115 q116 q117 q11 q118) rfl rfl rfl (by decide +kernel) ⟨Nat.le_of_ble_eq_true rfl, Nat.le_of_ble_eq_true rfl⟩) hP hD hK hS hA rfl rfl rfl rfl (by decide) rfl rfl rfl hl.1 rfl (Nat.le_of_ble_eq_true rfl) dL_law_317 ⟨Nat.le_of_ble_eq_true rfl, Nat.le_of_ble_eq_true rfl⟩ (fun u1 H locs hw1 hP hD hS => ?_)
  obtain ⟨home1, n1, lp1, lb1, tr1, ver1, tx1, sg1, sb1⟩ := u1
  have hP : va_P D vwCl (wM bd cI cZ (sz, gd, by_, cd, mtr, mver, op, sn, ch, oz, og, ob, oc) ++ wX ad cI cZ (home1, n1, lp1, lb1, tr1, ver1, tx1, sg1, sb1)) H := hP
  have hD : va_D (fun q : Nat => s.heap.size ≤ q) (wM bd cI cZ (sz, gd, by_, cd, mtr, mver, op, sn, ch, oz, og, ob, oc) ++ wX ad cI cZ (home1, n1, lp1, lb1, tr1, ver1, tx1, sg1, sb1)) := hD
  refine lv_aload_n hx hb dL_law_320 rfl (lv_at hl 2 rfl) ?_
  refine w_callv (wr := wX ad cI cZ (home1, n1, lp1, lb1, tr1, ver1, tx1, sg1, sb1)) (mX1_power l D bd cI cZ (sz, gd, by_, cd, mtr, mver, op, sn, ch, oz, og, ob, oc)) [0, 1, 2, 3, 4, 5, 6, 7] [8, 9, 10, 11, 12, 13] 0 ⟨hx, hb, hml, hown, hts⟩ (cwV 0 hts (lw_V q218 q219 q220 q12 q221) rfl rfl rfl (by decide +kernel) ⟨Nat.le_of_ble_eq_true rfl, Nat.le_of_ble_eq_true rfl⟩) hP hD hK hS hA rfl rfl rfl rfl (by decide) rfl rfl rfl hl.1 rfl (Nat.le_of_ble_eq_true rfl) dL_law_321 ⟨Nat.le_of_ble_eq_true rfl, Nat.le_of_ble_eq_true rfl⟩ (fun u2 H locs hw2 hP hD hS => ?_)
  obtain ⟨sz2, gd2, by_2, cd2, mtr2, mver2, op2, sn2, ch2, oz2, og2, ob2, oc2⟩ := u2
  have hP : va_P D vwCl (wX ad cI cZ (home1, n1, lp1, lb1, tr1, ver1, tx1, sg1, sb1) ++ wM bd cI cZ (sz2, gd2, by_2, cd2, mtr2, mver2, op2, sn2, ch2, oz2, og2, ob2, oc2)) H := hP
  have hD : va_D (fun q : Nat => s.heap.size ≤ q) (wX ad cI cZ (home1, n1, lp1, lb1, tr1, ver1, tx1, sg1, sb1) ++ wM bd cI cZ (sz2, gd2, by_2, cd2, mtr2, mver2, op2, sn2, ch2, oz2, og2, ob2, oc2)) := hD
  have hE := rl_power hR
  rw [← hw1, ← hw2] at hE
  refine lv_goto (tgt := 410) hx hb dL_law_324 (by decide) ?_
  refine lv_iinc (v := nI (i + 4)) (lv' := [(3, .int (nI (i + 4))), (0, .ref b), (1, .ref (ad 0)), (2, .ref (bd 0))]) hx hb dL_law_410 hl (k := 3) rfl (nI_add _ 4) (by decide) rfl (fun ls hl => ?_)
  refine lv_goto (tgt := 18) hx hb dL_law_413 (by decide) ?_
  exact ih (k - 4) (by omega) _ _ _ ⟨i + 4, (home1, n1, lp1, lb1, tr1, ver1, tx1, sg1, sb1), (sz2, gd2, by_2, cd2, mtr2, mver2, op2, sn2, ch2, oz2, og2, ob2, oc2), by omega, by omega, hE, hP, hD, hS, lv_sub hl [1, 2, 3, 0] rfl⟩
set_option maxHeartbeats 4000000 in
set_option maxRecDepth 100000 in
/-- the law's case 9 -/
theorem law_torn {p : Program} {e : Env} {s : State} {m : MethodId} {below : List Frame} {meth : Method} {c : Code} (l : Launch) {b L : Nat} {xs : Nat → Int32} (hL : L ≤ 256) (C0 : lw_At p s m meth c b L xs) {D : va_G} {ad bd : Nat → Nat} {cI cZ : ClassId} (hK : va_K D vwCl (tyW cI cZ) s) (k : Nat) (ih : ∀ k1 : Nat, k1 < k → ∀ (H : Heap) (locs : List Loc) (ls : Array Slot), (∃ (i : Nat) (u : CFt) (v : MDt), i + k1 = L + 4 ∧ i ≤ L ∧ rl u v ∧ va_P D vwCl (wX ad cI cZ u ++ wM bd cI cZ v) H ∧ va_D (fun q : Nat => s.heap.size ≤ q) (wX ad cI cZ u ++ wM bd cI cZ v) ∧ va_S (fun q : Nat => s.heap.size ≤ q) s.heap H locs ∧ lv_has ls 4 [(0, .ref b), (1, .ref (ad 0)), (2, .ref (bd 0)), (3, .int (nI i))]) → W p l e room_1 s m #[Value.ref b] below meth c H locs 14 698 (lw_Z below #[Value.ref b] s) (F0 m 18 ls [])) (i : Nat) (u : CFt) (v : MDt) (hik : i + k = L + 4) (hi : i + 4 ≤ L) (hR : rl u v) (H : Heap) (locs : List Loc) (ls : Array Slot) (hP : va_P D vwCl (wX ad cI cZ u ++ wM bd cI cZ v) H) (hD : va_D (fun q : Nat => s.heap.size ≤ q) (wX ad cI cZ u ++ wM bd cI cZ v)) (hS : va_S (fun q : Nat => s.heap.size ≤ q) s.heap H locs) (hl : lv_has ls 4 [(0, .ref b), (1, .ref (ad 0)), (2, .ref (bd 0)), (3, .int (nI i))]) : W p l e room_1 s m #[Value.ref b] below meth c H locs 14 698 (lw_Z below #[Value.ref b] s) (F0 m 327 ls []) := by
  obtain ⟨hx, hb, hr, hml, hown, hts0, hX, hbl, hlocks, hgv⟩ := C0
  have hts : ∀ w ∈ lw_all, w.before #[Value.ref b] s = true := fun w h => hts0 w (lw_all_tbl h)
  have hown : s.vm.findClass "CardFilesLaw" = some m.cls := hown
  have hA : ∀ q : Nat, s.heap.size ≤ q → (fun q : Nat => s.heap.size ≤ q) q := fun _ h => h
  have hbA : ¬ (fun q : Nat => s.heap.size ≤ q) b := Nat.not_le.mpr hbl
  obtain ⟨home, n, lp, lb, tr, ver, tx, sg, sb⟩ := u
  obtain ⟨sz, gd, by_, cd, mtr, mver, op, sn, ch, oz, og, ob, oc⟩ := v
  refine lv_aload_n hx hb dL_law_327 rfl (lv_at hl 1 rfl) ?_
  refine lv_aload_n hx hb dL_law_328 rfl (lv_at hl 0 rfl) ?_
  refine lv_iload_n hx hb dL_law_329 rfl (lv_at hl 3 rfl) ?_
  refine lv_iconst (v := nI 1) hx hb dL_law_330 (by rfl) ?_
  refine lv_iadd hx hb dL_law_331 ?_
  refine w_top (y := nI (i + 1)) (nI_add i 1) ?_
  refine na_sld hx hb hX hbl hbA hS (j := i + 1) (by omega) (by omega) dL_law_332 ?_
  refine lv_if_eq (tgt := 340) hx hb dL_law_333 (by decide) (fun h0 => ?_) (fun h0 => ?_)
  · refine lv_iconst (v := cf_b false) hx hb dL_law_340 (by rfl) ?_
    refine lv_aload_n hx hb dL_law_341 rfl (lv_at hl 0 rfl) ?_
    refine lv_iload_n hx hb dL_law_342 rfl (lv_at hl 3 rfl) ?_
    refine lv_iconst (v := nI 2) hx hb dL_law_343 (by rfl) ?_
    refine lv_iadd hx hb dL_law_344 ?_
    refine w_top (y := nI (i + 2)) (nI_add i 2) ?_
    refine na_sld hx hb hX hbl hbA hS (j := i + 2) (by omega) (by omega) dL_law_345 ?_
    refine w_callv (wr := wM bd cI cZ (sz, gd, by_, cd, mtr, mver, op, sn, ch, oz, og, ob, oc)) (mX0_torn l D ad cI cZ (home, n, lp, lb, tr, ver, tx, sg, sb) false (xs (i + 2)) (rl_cfok hR)) [0, 1, 2, 3, 4, 5] [6, 7, 8, 9, 10, 11, 12, 13] 0 ⟨hx, hb, hml, hown, hts⟩ (cwV 2 hts (lw_V q123 q124 q125 q11 q126) rfl rfl rfl (by decide +kernel) ⟨Nat.le_of_ble_eq_true rfl, Nat.le_of_ble_eq_true rfl⟩) hP hD hK hS hA rfl rfl rfl rfl (by decide) rfl rfl rfl hl.1 rfl (Nat.le_of_ble_eq_true rfl) dL_law_346 ⟨Nat.le_of_ble_eq_true rfl, Nat.le_of_ble_eq_true rfl⟩ (fun u1 H locs hw1 hP hD hS => ?_)
    obtain ⟨home1, n1, lp1, lb1, tr1, ver1, tx1, sg1, sb1⟩ := u1
    have hP : va_P D vwCl (wM bd cI cZ (sz, gd, by_, cd, mtr, mver, op, sn, ch, oz, og, ob, oc) ++ wX ad cI cZ (home1, n1, lp1, lb1, tr1, ver1, tx1, sg1, sb1)) H := hP
    have hD : va_D (fun q : Nat => s.heap.size ≤ q) (wM bd cI cZ (sz, gd, by_, cd, mtr, mver, op, sn, ch, oz, og, ob, oc) ++ wX ad cI cZ (home1, n1, lp1, lb1, tr1, ver1, tx1, sg1, sb1)) := hD
    refine lv_aload_n hx hb dL_law_349 rfl (lv_at hl 2 rfl) ?_
    refine lv_aload_n hx hb dL_law_350 rfl (lv_at hl 0 rfl) ?_
    refine lv_iload_n hx hb dL_law_351 rfl (lv_at hl 3 rfl) ?_
    refine lv_iconst (v := nI 1) hx hb dL_law_352 (by rfl) ?_
    refine lv_iadd hx hb dL_law_353 ?_
    refine w_top (y := nI (i + 1)) (nI_add i 1) ?_
    refine na_sld hx hb hX hbl hbA hS (j := i + 1) (by omega) (by omega) dL_law_354 ?_
    refine lv_if_eq (tgt := 362) hx hb dL_law_355 (by decide) (fun h1 => ?_) (fun h1 => ?_)
    · refine lv_iconst (v := cf_b false) hx hb dL_law_362 (by rfl) ?_
      refine lv_aload_n hx hb dL_law_363 rfl (lv_at hl 0 rfl) ?_
      refine lv_iload_n hx hb dL_law_364 rfl (lv_at hl 3 rfl) ?_
      refine lv_iconst (v := nI 2) hx hb dL_law_365 (by rfl) ?_
      refine lv_iadd hx hb dL_law_366 ?_
      refine w_top (y := nI (i + 2)) (nI_add i 2) ?_
      refine na_sld hx hb hX hbl hbA hS (j := i + 2) (by omega) (by omega) dL_law_367 ?_
      refine w_callv (wr := wX ad cI cZ (home1, n1, lp1, lb1, tr1, ver1, tx1, sg1, sb1)) (mX1_torn l D bd cI cZ (sz, gd, by_, cd, mtr, mver, op, sn, ch, oz, og, ob, oc) false (xs (i + 2))) [0, 1, 2, 3, 4, 5, 6, 7] [8, 9, 10, 11, 12, 13] 0 ⟨hx, hb, hml, hown, hts⟩ (cwV 2 hts (lw_V q222 q223 q224 q12 q225) rfl rfl rfl (by decide +kernel) ⟨Nat.le_of_ble_eq_true rfl, Nat.le_of_ble_eq_true rfl⟩) hP hD hK hS hA rfl rfl rfl rfl (by decide) rfl rfl rfl hl.1 rfl (Nat.le_of_ble_eq_true rfl) dL_law_368 ⟨Nat.le_of_ble_eq_true rfl, Nat.le_of_ble_eq_true rfl⟩ (fun u2 H locs hw2 hP hD hS => ?_)
      obtain ⟨sz2, gd2, by_2, cd2, mtr2, mver2, op2, sn2, ch2, oz2, og2, ob2, oc2⟩ := u2
      have hP : va_P D vwCl (wX ad cI cZ (home1, n1, lp1, lb1, tr1, ver1, tx1, sg1, sb1) ++ wM bd cI cZ (sz2, gd2, by_2, cd2, mtr2, mver2, op2, sn2, ch2, oz2, og2, ob2, oc2)) H := hP
      have hD : va_D (fun q : Nat => s.heap.size ≤ q) (wX ad cI cZ (home1, n1, lp1, lb1, tr1, ver1, tx1, sg1, sb1) ++ wM bd cI cZ (sz2, gd2, by_2, cd2, mtr2, mver2, op2, sn2, ch2, oz2, og2, ob2, oc2)) := hD
      have hE := rl_torn hR false (xs (i + 2))
      rw [← hw1, ← hw2] at hE
      refine lv_goto (tgt := 410) hx hb dL_law_371 (by decide) ?_
      refine lv_iinc (v := nI (i + 4)) (lv' := [(3, .int (nI (i + 4))), (0, .ref b), (1, .ref (ad 0)), (2, .ref (bd 0))]) hx hb dL_law_410 hl (k := 3) rfl (nI_add _ 4) (by decide) rfl (fun ls hl => ?_)
      refine lv_goto (tgt := 18) hx hb dL_law_413 (by decide) ?_
      exact ih (k - 4) (by omega) _ _ _ ⟨i + 4, (home1, n1, lp1, lb1, tr1, ver1, tx1, sg1, sb1), (sz2, gd2, by_2, cd2, mtr2, mver2, op2, sn2, ch2, oz2, og2, ob2, oc2), by omega, by omega, hE, hP, hD, hS, lv_sub hl [1, 2, 3, 0] rfl⟩
    · exact absurd h0 h1
  · refine lv_iconst (v := cf_b true) hx hb dL_law_336 (by rfl) ?_
    refine lv_goto (tgt := 341) hx hb dL_law_337 (by decide) ?_
    refine lv_aload_n hx hb dL_law_341 rfl (lv_at hl 0 rfl) ?_
    refine lv_iload_n hx hb dL_law_342 rfl (lv_at hl 3 rfl) ?_
    refine lv_iconst (v := nI 2) hx hb dL_law_343 (by rfl) ?_
    refine lv_iadd hx hb dL_law_344 ?_
    refine w_top (y := nI (i + 2)) (nI_add i 2) ?_
    refine na_sld hx hb hX hbl hbA hS (j := i + 2) (by omega) (by omega) dL_law_345 ?_
    refine w_callv (wr := wM bd cI cZ (sz, gd, by_, cd, mtr, mver, op, sn, ch, oz, og, ob, oc)) (mX0_torn l D ad cI cZ (home, n, lp, lb, tr, ver, tx, sg, sb) true (xs (i + 2)) (rl_cfok hR)) [0, 1, 2, 3, 4, 5] [6, 7, 8, 9, 10, 11, 12, 13] 0 ⟨hx, hb, hml, hown, hts⟩ (cwV 2 hts (lw_V q123 q124 q125 q11 q126) rfl rfl rfl (by decide +kernel) ⟨Nat.le_of_ble_eq_true rfl, Nat.le_of_ble_eq_true rfl⟩) hP hD hK hS hA rfl rfl rfl rfl (by decide) rfl rfl rfl hl.1 rfl (Nat.le_of_ble_eq_true rfl) dL_law_346 ⟨Nat.le_of_ble_eq_true rfl, Nat.le_of_ble_eq_true rfl⟩ (fun u1 H locs hw1 hP hD hS => ?_)
    obtain ⟨home1, n1, lp1, lb1, tr1, ver1, tx1, sg1, sb1⟩ := u1
    have hP : va_P D vwCl (wM bd cI cZ (sz, gd, by_, cd, mtr, mver, op, sn, ch, oz, og, ob, oc) ++ wX ad cI cZ (home1, n1, lp1, lb1, tr1, ver1, tx1, sg1, sb1)) H := hP
    have hD : va_D (fun q : Nat => s.heap.size ≤ q) (wM bd cI cZ (sz, gd, by_, cd, mtr, mver, op, sn, ch, oz, og, ob, oc) ++ wX ad cI cZ (home1, n1, lp1, lb1, tr1, ver1, tx1, sg1, sb1)) := hD
    refine lv_aload_n hx hb dL_law_349 rfl (lv_at hl 2 rfl) ?_
    refine lv_aload_n hx hb dL_law_350 rfl (lv_at hl 0 rfl) ?_
    refine lv_iload_n hx hb dL_law_351 rfl (lv_at hl 3 rfl) ?_
    refine lv_iconst (v := nI 1) hx hb dL_law_352 (by rfl) ?_
    refine lv_iadd hx hb dL_law_353 ?_
    refine w_top (y := nI (i + 1)) (nI_add i 1) ?_
    refine na_sld hx hb hX hbl hbA hS (j := i + 1) (by omega) (by omega) dL_law_354 ?_
    refine lv_if_eq (tgt := 362) hx hb dL_law_355 (by decide) (fun h1 => ?_) (fun h1 => ?_)
    · exact absurd h1 h0
    · refine lv_iconst (v := cf_b true) hx hb dL_law_358 (by rfl) ?_
      refine lv_goto (tgt := 363) hx hb dL_law_359 (by decide) ?_
      refine lv_aload_n hx hb dL_law_363 rfl (lv_at hl 0 rfl) ?_
      refine lv_iload_n hx hb dL_law_364 rfl (lv_at hl 3 rfl) ?_
      refine lv_iconst (v := nI 2) hx hb dL_law_365 (by rfl) ?_
      refine lv_iadd hx hb dL_law_366 ?_
      refine w_top (y := nI (i + 2)) (nI_add i 2) ?_
      refine na_sld hx hb hX hbl hbA hS (j := i + 2) (by omega) (by omega) dL_law_367 ?_
      refine w_callv (wr := wX ad cI cZ (home1, n1, lp1, lb1, tr1, ver1, tx1, sg1, sb1)) (mX1_torn l D bd cI cZ (sz, gd, by_, cd, mtr, mver, op, sn, ch, oz, og, ob, oc) true (xs (i + 2))) [0, 1, 2, 3, 4, 5, 6, 7] [8, 9, 10, 11, 12, 13] 0 ⟨hx, hb, hml, hown, hts⟩ (cwV 2 hts (lw_V q222 q223 q224 q12 q225) rfl rfl rfl (by decide +kernel) ⟨Nat.le_of_ble_eq_true rfl, Nat.le_of_ble_eq_true rfl⟩) hP hD hK hS hA rfl rfl rfl rfl (by decide) rfl rfl rfl hl.1 rfl (Nat.le_of_ble_eq_true rfl) dL_law_368 ⟨Nat.le_of_ble_eq_true rfl, Nat.le_of_ble_eq_true rfl⟩ (fun u2 H locs hw2 hP hD hS => ?_)
      obtain ⟨sz2, gd2, by_2, cd2, mtr2, mver2, op2, sn2, ch2, oz2, og2, ob2, oc2⟩ := u2
      have hP : va_P D vwCl (wX ad cI cZ (home1, n1, lp1, lb1, tr1, ver1, tx1, sg1, sb1) ++ wM bd cI cZ (sz2, gd2, by_2, cd2, mtr2, mver2, op2, sn2, ch2, oz2, og2, ob2, oc2)) H := hP
      have hD : va_D (fun q : Nat => s.heap.size ≤ q) (wX ad cI cZ (home1, n1, lp1, lb1, tr1, ver1, tx1, sg1, sb1) ++ wM bd cI cZ (sz2, gd2, by_2, cd2, mtr2, mver2, op2, sn2, ch2, oz2, og2, ob2, oc2)) := hD
      have hE := rl_torn hR true (xs (i + 2))
      rw [← hw1, ← hw2] at hE
      refine lv_goto (tgt := 410) hx hb dL_law_371 (by decide) ?_
      refine lv_iinc (v := nI (i + 4)) (lv' := [(3, .int (nI (i + 4))), (0, .ref b), (1, .ref (ad 0)), (2, .ref (bd 0))]) hx hb dL_law_410 hl (k := 3) rfl (nI_add _ 4) (by decide) rfl (fun ls hl => ?_)
      refine lv_goto (tgt := 18) hx hb dL_law_413 (by decide) ?_
      exact ih (k - 4) (by omega) _ _ _ ⟨i + 4, (home1, n1, lp1, lb1, tr1, ver1, tx1, sg1, sb1), (sz2, gd2, by_2, cd2, mtr2, mver2, op2, sn2, ch2, oz2, og2, ob2, oc2), by omega, by omega, hE, hP, hD, hS, lv_sub hl [1, 2, 3, 0] rfl⟩
set_option maxHeartbeats 4000000 in
set_option maxRecDepth 100000 in
/-- the law's case 10 -/
theorem law_size {p : Program} {e : Env} {s : State} {m : MethodId} {below : List Frame} {meth : Method} {c : Code} (l : Launch) {b L : Nat} {xs : Nat → Int32} (hL : L ≤ 256) (C0 : lw_At p s m meth c b L xs) {D : va_G} {ad bd : Nat → Nat} {cI cZ : ClassId} (hK : va_K D vwCl (tyW cI cZ) s) (k : Nat) (ih : ∀ k1 : Nat, k1 < k → ∀ (H : Heap) (locs : List Loc) (ls : Array Slot), (∃ (i : Nat) (u : CFt) (v : MDt), i + k1 = L + 4 ∧ i ≤ L ∧ rl u v ∧ va_P D vwCl (wX ad cI cZ u ++ wM bd cI cZ v) H ∧ va_D (fun q : Nat => s.heap.size ≤ q) (wX ad cI cZ u ++ wM bd cI cZ v) ∧ va_S (fun q : Nat => s.heap.size ≤ q) s.heap H locs ∧ lv_has ls 4 [(0, .ref b), (1, .ref (ad 0)), (2, .ref (bd 0)), (3, .int (nI i))]) → W p l e room_1 s m #[Value.ref b] below meth c H locs 14 698 (lw_Z below #[Value.ref b] s) (F0 m 18 ls [])) (i : Nat) (u : CFt) (v : MDt) (hik : i + k = L + 4) (hi : i + 4 ≤ L) (hR : rl u v) (H : Heap) (locs : List Loc) (ls : Array Slot) (hP : va_P D vwCl (wX ad cI cZ u ++ wM bd cI cZ v) H) (hD : va_D (fun q : Nat => s.heap.size ≤ q) (wX ad cI cZ u ++ wM bd cI cZ v)) (hS : va_S (fun q : Nat => s.heap.size ≤ q) s.heap H locs) (hl : lv_has ls 4 [(0, .ref b), (1, .ref (ad 0)), (2, .ref (bd 0)), (3, .int (nI i))]) : W p l e room_1 s m #[Value.ref b] below meth c H locs 14 698 (lw_Z below #[Value.ref b] s) (F0 m 374 ls []) := by
  obtain ⟨hx, hb, hr, hml, hown, hts0, hX, hbl, hlocks, hgv⟩ := C0
  have hts : ∀ w ∈ lw_all, w.before #[Value.ref b] s = true := fun w h => hts0 w (lw_all_tbl h)
  have hown : s.vm.findClass "CardFilesLaw" = some m.cls := hown
  have hA : ∀ q : Nat, s.heap.size ≤ q → (fun q : Nat => s.heap.size ≤ q) q := fun _ h => h
  have hbA : ¬ (fun q : Nat => s.heap.size ≤ q) b := Nat.not_le.mpr hbl
  obtain ⟨home, n, lp, lb, tr, ver, tx, sg, sb⟩ := u
  obtain ⟨sz, gd, by_, cd, mtr, mver, op, sn, ch, oz, og, ob, oc⟩ := v
  refine lv_aload_n hx hb dL_law_374 rfl (lv_at hl 1 rfl) ?_
  refine lv_aload_n hx hb dL_law_375 rfl (lv_at hl 0 rfl) ?_
  refine lv_iload_n hx hb dL_law_376 rfl (lv_at hl 3 rfl) ?_
  refine lv_iconst (v := nI 1) hx hb dL_law_377 (by rfl) ?_
  refine lv_iadd hx hb dL_law_378 ?_
  refine w_top (y := nI (i + 1)) (nI_add i 1) ?_
  refine na_sld hx hb hX hbl hbA hS (j := i + 1) (by omega) (by omega) dL_law_379 ?_
  refine w_calli (wr := wM bd cI cZ (sz, gd, by_, cd, mtr, mver, op, sn, ch, oz, og, ob, oc)) (mX0_size l D ad cI cZ (home, n, lp, lb, tr, ver, tx, sg, sb) (xs (i + 1)) (rl_cfok hR)) [0, 1, 2, 3, 4, 5] [6, 7, 8, 9, 10, 11, 12, 13] 0 ⟨hx, hb, hml, hown, hts⟩ (cwV 1 hts (lw_V q127 q56 q57 q11 q58) rfl rfl rfl (by decide +kernel) ⟨Nat.le_of_ble_eq_true rfl, Nat.le_of_ble_eq_true rfl⟩) hP hD hK hS hA rfl rfl rfl rfl (by decide) rfl rfl rfl hl.1 rfl (Nat.le_of_ble_eq_true rfl) dL_law_380 ⟨Nat.le_of_ble_eq_true rfl, Nat.le_of_ble_eq_true rfl⟩ (fun r1 u1 H locs hw1 hP hD hS => ?_)
  obtain ⟨rfl, rfl⟩ := hw1
  have hP : va_P D vwCl (wM bd cI cZ (sz, gd, by_, cd, mtr, mver, op, sn, ch, oz, og, ob, oc) ++ wX ad cI cZ (home, n, lp, lb, tr, ver, tx, sg, sb)) H := hP
  have hD : va_D (fun q : Nat => s.heap.size ≤ q) (wM bd cI cZ (sz, gd, by_, cd, mtr, mver, op, sn, ch, oz, og, ob, oc) ++ wX ad cI cZ (home, n, lp, lb, tr, ver, tx, sg, sb)) := hD
  refine lv_aload_n hx hb dL_law_383 rfl (lv_at hl 2 rfl) ?_
  refine lv_aload_n hx hb dL_law_384 rfl (lv_at hl 0 rfl) ?_
  refine lv_iload_n hx hb dL_law_385 rfl (lv_at hl 3 rfl) ?_
  refine lv_iconst (v := nI 1) hx hb dL_law_386 (by rfl) ?_
  refine lv_iadd hx hb dL_law_387 ?_
  refine w_top (y := nI (i + 1)) (nI_add i 1) ?_
  refine na_sld hx hb hX hbl hbA hS (j := i + 1) (by omega) (by omega) dL_law_388 ?_
  refine w_calli (wr := wX ad cI cZ (home, n, lp, lb, tr, ver, tx, sg, sb)) (mX1_size l D bd cI cZ (sz, gd, by_, cd, mtr, mver, op, sn, ch, oz, og, ob, oc) (xs (i + 1))) [0, 1, 2, 3, 4, 5, 6, 7] [8, 9, 10, 11, 12, 13] 0 ⟨hx, hb, hml, hown, hts⟩ (cwV 1 hts (lw_V q227 q228 q229 q12 q230) rfl rfl rfl (by decide +kernel) ⟨Nat.le_of_ble_eq_true rfl, Nat.le_of_ble_eq_true rfl⟩) hP hD hK hS hA rfl rfl rfl rfl (by decide) rfl rfl rfl hl.1 rfl (Nat.le_of_ble_eq_true rfl) dL_law_389 ⟨Nat.le_of_ble_eq_true rfl, Nat.le_of_ble_eq_true rfl⟩ (fun r2 u2 H locs hw2 hP hD hS => ?_)
  obtain ⟨rfl, rfl⟩ := hw2
  have hP : va_P D vwCl (wX ad cI cZ (home, n, lp, lb, tr, ver, tx, sg, sb) ++ wM bd cI cZ (sz, gd, by_, cd, mtr, mver, op, sn, ch, oz, og, ob, oc)) H := hP
  have hD : va_D (fun q : Nat => s.heap.size ≤ q) (wX ad cI cZ (home, n, lp, lb, tr, ver, tx, sg, sb) ++ wM bd cI cZ (sz, gd, by_, cd, mtr, mver, op, sn, ch, oz, og, ob, oc)) := hD
  refine lv_icmp_eq (tgt := 410) hx hb dL_law_392 (by decide) (fun hc => ?_) (fun hc => ?_)
  · refine lv_iinc (v := nI (i + 4)) (lv' := [(3, .int (nI (i + 4))), (0, .ref b), (1, .ref (ad 0)), (2, .ref (bd 0))]) hx hb dL_law_410 hl (k := 3) rfl (nI_add _ 4) (by decide) rfl (fun ls hl => ?_)
    refine lv_goto (tgt := 18) hx hb dL_law_413 (by decide) ?_
    exact ih (k - 4) (by omega) _ _ _ ⟨i + 4, (home, n, lp, lb, tr, ver, tx, sg, sb), (sz, gd, by_, cd, mtr, mver, op, sn, ch, oz, og, ob, oc), by omega, by omega, hR, hP, hD, hS, lv_sub hl [1, 2, 3, 0] rfl⟩
  · exact absurd (rl_size hR (xs (i + 1))) hc
set_option maxHeartbeats 4000000 in
set_option maxRecDepth 100000 in
/-- the law's case 11 -/
theorem law_state {p : Program} {e : Env} {s : State} {m : MethodId} {below : List Frame} {meth : Method} {c : Code} (l : Launch) {b L : Nat} {xs : Nat → Int32} (hL : L ≤ 256) (C0 : lw_At p s m meth c b L xs) {D : va_G} {ad bd : Nat → Nat} {cI cZ : ClassId} (hK : va_K D vwCl (tyW cI cZ) s) (k : Nat) (ih : ∀ k1 : Nat, k1 < k → ∀ (H : Heap) (locs : List Loc) (ls : Array Slot), (∃ (i : Nat) (u : CFt) (v : MDt), i + k1 = L + 4 ∧ i ≤ L ∧ rl u v ∧ va_P D vwCl (wX ad cI cZ u ++ wM bd cI cZ v) H ∧ va_D (fun q : Nat => s.heap.size ≤ q) (wX ad cI cZ u ++ wM bd cI cZ v) ∧ va_S (fun q : Nat => s.heap.size ≤ q) s.heap H locs ∧ lv_has ls 4 [(0, .ref b), (1, .ref (ad 0)), (2, .ref (bd 0)), (3, .int (nI i))]) → W p l e room_1 s m #[Value.ref b] below meth c H locs 14 698 (lw_Z below #[Value.ref b] s) (F0 m 18 ls [])) (i : Nat) (u : CFt) (v : MDt) (hik : i + k = L + 4) (hi : i + 4 ≤ L) (hR : rl u v) (H : Heap) (locs : List Loc) (ls : Array Slot) (hP : va_P D vwCl (wX ad cI cZ u ++ wM bd cI cZ v) H) (hD : va_D (fun q : Nat => s.heap.size ≤ q) (wX ad cI cZ u ++ wM bd cI cZ v)) (hS : va_S (fun q : Nat => s.heap.size ≤ q) s.heap H locs) (hl : lv_has ls 4 [(0, .ref b), (1, .ref (ad 0)), (2, .ref (bd 0)), (3, .int (nI i))]) : W p l e room_1 s m #[Value.ref b] below meth c H locs 14 698 (lw_Z below #[Value.ref b] s) (F0 m 397 ls []) := by
  obtain ⟨hx, hb, hr, hml, hown, hts0, hX, hbl, hlocks, hgv⟩ := C0
  have hts : ∀ w ∈ lw_all, w.before #[Value.ref b] s = true := fun w h => hts0 w (lw_all_tbl h)
  have hown : s.vm.findClass "CardFilesLaw" = some m.cls := hown
  have hA : ∀ q : Nat, s.heap.size ≤ q → (fun q : Nat => s.heap.size ≤ q) q := fun _ h => h
  have hbA : ¬ (fun q : Nat => s.heap.size ≤ q) b := Nat.not_le.mpr hbl
  obtain ⟨home, n, lp, lb, tr, ver, tx, sg, sb⟩ := u
  obtain ⟨sz, gd, by_, cd, mtr, mver, op, sn, ch, oz, og, ob, oc⟩ := v
  refine lv_aload_n hx hb dL_law_397 rfl (lv_at hl 1 rfl) ?_
  refine w_calli (wr := wM bd cI cZ (sz, gd, by_, cd, mtr, mver, op, sn, ch, oz, og, ob, oc)) (mX0_state l D ad cI cZ (home, n, lp, lb, tr, ver, tx, sg, sb)) [0, 1, 2, 3, 4, 5] [6, 7, 8, 9, 10, 11, 12, 13] 0 ⟨hx, hb, hml, hown, hts⟩ (cwV 0 hts (lw_V q128 q129 q130 q11 q131) rfl rfl rfl (by decide +kernel) ⟨Nat.le_of_ble_eq_true rfl, Nat.le_of_ble_eq_true rfl⟩) hP hD hK hS hA rfl rfl rfl rfl (by decide) rfl rfl rfl hl.1 rfl (Nat.le_of_ble_eq_true rfl) dL_law_398 ⟨Nat.le_of_ble_eq_true rfl, Nat.le_of_ble_eq_true rfl⟩ (fun r1 u1 H locs hw1 hP hD hS => ?_)
  obtain ⟨rfl, rfl⟩ := hw1
  have hP : va_P D vwCl (wM bd cI cZ (sz, gd, by_, cd, mtr, mver, op, sn, ch, oz, og, ob, oc) ++ wX ad cI cZ (home, n, lp, lb, tr, ver, tx, sg, sb)) H := hP
  have hD : va_D (fun q : Nat => s.heap.size ≤ q) (wM bd cI cZ (sz, gd, by_, cd, mtr, mver, op, sn, ch, oz, og, ob, oc) ++ wX ad cI cZ (home, n, lp, lb, tr, ver, tx, sg, sb)) := hD
  refine lv_aload_n hx hb dL_law_401 rfl (lv_at hl 2 rfl) ?_
  refine w_calli (wr := wX ad cI cZ (home, n, lp, lb, tr, ver, tx, sg, sb)) (mX1_state l D bd cI cZ (sz, gd, by_, cd, mtr, mver, op, sn, ch, oz, og, ob, oc) ) [0, 1, 2, 3, 4, 5, 6, 7] [8, 9, 10, 11, 12, 13] 0 ⟨hx, hb, hml, hown, hts⟩ (cwV 0 hts (lw_V q231 q232 q233 q12 q234) rfl rfl rfl (by decide +kernel) ⟨Nat.le_of_ble_eq_true rfl, Nat.le_of_ble_eq_true rfl⟩) hP hD hK hS hA rfl rfl rfl rfl (by decide) rfl rfl rfl hl.1 rfl (Nat.le_of_ble_eq_true rfl) dL_law_402 ⟨Nat.le_of_ble_eq_true rfl, Nat.le_of_ble_eq_true rfl⟩ (fun r2 u2 H locs hw2 hP hD hS => ?_)
  obtain ⟨rfl, rfl⟩ := hw2
  have hP : va_P D vwCl (wX ad cI cZ (home, n, lp, lb, tr, ver, tx, sg, sb) ++ wM bd cI cZ (sz, gd, by_, cd, mtr, mver, op, sn, ch, oz, og, ob, oc)) H := hP
  have hD : va_D (fun q : Nat => s.heap.size ≤ q) (wX ad cI cZ (home, n, lp, lb, tr, ver, tx, sg, sb) ++ wM bd cI cZ (sz, gd, by_, cd, mtr, mver, op, sn, ch, oz, og, ob, oc)) := hD
  refine lv_icmp_eq (tgt := 410) hx hb dL_law_405 (by decide) (fun hc => ?_) (fun hc => ?_)
  · refine lv_iinc (v := nI (i + 4)) (lv' := [(3, .int (nI (i + 4))), (0, .ref b), (1, .ref (ad 0)), (2, .ref (bd 0))]) hx hb dL_law_410 hl (k := 3) rfl (nI_add _ 4) (by decide) rfl (fun ls hl => ?_)
    refine lv_goto (tgt := 18) hx hb dL_law_413 (by decide) ?_
    exact ih (k - 4) (by omega) _ _ _ ⟨i + 4, (home, n, lp, lb, tr, ver, tx, sg, sb), (sz, gd, by_, cd, mtr, mver, op, sn, ch, oz, og, ob, oc), by omega, by omega, hR, hP, hD, hS, lv_sub hl [1, 2, 3, 0] rfl⟩
  · exact absurd (rl_state hR ) hc
set_option maxHeartbeats 4000000 in
set_option maxRecDepth 100000 in
/-- THE LAW'S LOOP: at its head the two states are related -/
theorem law_loop {p : Program} {e : Env} {s : State} {m : MethodId} {below : List Frame} {meth : Method} {c : Code} (l : Launch) {b L : Nat} {xs : Nat → Int32} (hL : L ≤ 256) (C0 : lw_At p s m meth c b L xs) {D : va_G} {ad bd : Nat → Nat} {cI cZ : ClassId} (hK : va_K D vwCl (tyW cI cZ) s) : ∀ (k : Nat) (H : Heap) (locs : List Loc) (ls : Array Slot), (∃ (i : Nat) (u : CFt) (v : MDt), i + k = L + 4 ∧ i ≤ L ∧ rl u v ∧ va_P D vwCl (wX ad cI cZ u ++ wM bd cI cZ v) H ∧ va_D (fun q : Nat => s.heap.size ≤ q) (wX ad cI cZ u ++ wM bd cI cZ v) ∧ va_S (fun q : Nat => s.heap.size ≤ q) s.heap H locs ∧ lv_has ls 4 [(0, .ref b), (1, .ref (ad 0)), (2, .ref (bd 0)), (3, .int (nI i))]) → W p l e room_1 s m #[Value.ref b] below meth c H locs 14 698 (lw_Z below #[Value.ref b] s) (F0 m 18 ls []) := by
  obtain ⟨hx, hb, hr, hml, hown, hts0, hX, hbl, hlocks, hgv⟩ := id C0
  have hts : ∀ w ∈ lw_all, w.before #[Value.ref b] s = true := fun w h => hts0 w (lw_all_tbl h)
  have hown : s.vm.findClass "CardFilesLaw" = some m.cls := hown
  have hA : ∀ q : Nat, s.heap.size ≤ q → (fun q : Nat => s.heap.size ≤ q) q := fun _ h => h
  have hbA : ¬ (fun q : Nat => s.heap.size ≤ q) b := Nat.not_le.mpr hbl
  intro n
  refine w_loop (pc := 18) (fun k H locs ls => ∃ (i : Nat) (u : CFt) (v : MDt), i + k = L + 4 ∧ i ≤ L ∧ rl u v ∧ va_P D vwCl (wX ad cI cZ u ++ wM bd cI cZ v) H ∧ va_D (fun q : Nat => s.heap.size ≤ q) (wX ad cI cZ u ++ wM bd cI cZ v) ∧ va_S (fun q : Nat => s.heap.size ≤ q) s.heap H locs ∧ lv_has ls 4 [(0, .ref b), (1, .ref (ad 0)), (2, .ref (bd 0)), (3, .int (nI i))]) (fun k ih H locs ls hI => ?_) n
  obtain ⟨i, u, v, hik, hi, hR, hP, hD, hS, hl⟩ := hI
  refine lv_iload_n hx hb dL_law_18 rfl (lv_at hl 3 rfl) ?_
  refine lv_aload_n hx hb dL_law_19 rfl (lv_at hl 0 rfl) ?_
  refine va_slen hx hb hX hbl hbA hS dL_law_20 ?_
  refine lv_iconst (v := nI 4) hx hb dL_law_21 (by rfl) ?_
  refine lv_isub hx hb dL_law_22 ?_
  refine lv_icmp_gt (tgt := 416) hx hb dL_law_23 (by decide) (fun c23 => ?_) (fun c23 => ?_)
  · refine lv_iconst (v := 1) hx hb dL_law_416 (by decide) ?_
    refine va_forget (fun q hq => hS.2.2 q hq) ?_
    refine W.widen (k := 600000) (n := 7290000) (Nat.le_of_ble_eq_true rfl) (Nat.le_of_ble_eq_true rfl) ?_
    exact lw_ret hx hb hr hlocks dL_law_417
  · have hi4 : i + 4 ≤ L := lw_more hL hi c23
    refine lv_aload_n hx hb dL_law_26 rfl (lv_at hl 0 rfl) ?_
    refine lv_iload_n hx hb dL_law_27 rfl (lv_at hl 3 rfl) ?_
    refine na_sld hx hb hX hbl hbA hS (j := i) (by omega) (by omega) dL_law_28 ?_
    refine lv_bipush (v := 15) hx hb dL_law_29 (by decide) ?_
    refine lv_iand hx hb dL_law_31 ?_
    obtain ⟨j, hj, ej⟩ := pk_andE (xs i) (m := 15) 4 (by decide)
    refine w_top ej ?_
    have hj : j < 16 := hj
    rcases (show j = 0 ∨ j = 1 ∨ j = 2 ∨ j = 3 ∨ j = 4 ∨ j = 5 ∨ j = 6 ∨ j = 7 ∨ j = 8 ∨ j = 9 ∨ j = 10 ∨ j = 11 ∨ 12 ≤ j by omega) with rfl | rfl | rfl | rfl | rfl | rfl | rfl | rfl | rfl | rfl | rfl | rfl | hj2
    · refine lv_tableIn (off := 64) (tgt := 96) hx hb dL_law_32 (by decide) (by decide) (by rfl) (by decide) ?_
      exact law_create l hL C0 hK k ih i u v hik hi4 hR H locs ls hP hD hS hl
    · refine lv_tableIn (off := 123) (tgt := 155) hx hb dL_law_32 (by decide) (by decide) (by rfl) (by decide) ?_
      exact law_update l hL C0 hK k ih i u v hik hi4 hR H locs ls hP hD hS hl
    · refine lv_tableIn (off := 166) (tgt := 198) hx hb dL_law_32 (by decide) (by decide) (by rfl) (by decide) ?_
      exact law_read l hL C0 hK k ih i u v hik hi4 hR H locs ls hP hD hS hl
    · refine lv_tableIn (off := 199) (tgt := 231) hx hb dL_law_32 (by decide) (by decide) (by rfl) (by decide) ?_
      exact law_begin l hL C0 hK k ih i u v hik hi4 hR H locs ls hP hD hS hl
    · refine lv_tableIn (off := 212) (tgt := 244) hx hb dL_law_32 (by decide) (by decide) (by rfl) (by decide) ?_
      exact law_commit l hL C0 hK k ih i u v hik hi4 hR H locs ls hP hD hS hl
    · refine lv_tableIn (off := 225) (tgt := 257) hx hb dL_law_32 (by decide) (by decide) (by rfl) (by decide) ?_
      exact law_abort l hL C0 hK k ih i u v hik hi4 hR H locs ls hP hD hS hl
    · refine lv_tableIn (off := 238) (tgt := 270) hx hb dL_law_32 (by decide) (by decide) (by rfl) (by decide) ?_
      exact law_verify l hL C0 hK k ih i u v hik hi4 hR H locs ls hP hD hS hl
    · refine lv_tableIn (off := 261) (tgt := 293) hx hb dL_law_32 (by decide) (by decide) (by rfl) (by decide) ?_
      exact law_change l hL C0 hK k ih i u v hik hi4 hR H locs ls hP hD hS hl
    · refine lv_tableIn (off := 284) (tgt := 316) hx hb dL_law_32 (by decide) (by decide) (by rfl) (by decide) ?_
      exact law_power l hL C0 hK k ih i u v hik hi4 hR H locs ls hP hD hS hl
    · refine lv_tableIn (off := 295) (tgt := 327) hx hb dL_law_32 (by decide) (by decide) (by rfl) (by decide) ?_
      exact law_torn l hL C0 hK k ih i u v hik hi4 hR H locs ls hP hD hS hl
    · refine lv_tableIn (off := 342) (tgt := 374) hx hb dL_law_32 (by decide) (by decide) (by rfl) (by decide) ?_
      exact law_size l hL C0 hK k ih i u v hik hi4 hR H locs ls hP hD hS hl
    · refine lv_tableIn (off := 365) (tgt := 397) hx hb dL_law_32 (by decide) (by decide) (by rfl) (by decide) ?_
      exact law_state l hL C0 hK k ih i u v hik hi4 hR H locs ls hP hD hS hl
    · refine lv_tableOut (tgt := 410) hx hb dL_law_32 (Or.inr (by rw [nI_toInt (by omega)]; omega)) (by decide) ?_
      refine lv_iinc (v := nI (i + 4)) (lv' := [(3, .int (nI (i + 4))), (0, .ref b), (1, .ref (ad 0)), (2, .ref (bd 0))]) hx hb dL_law_410 hl (k := 3) rfl (nI_add _ 4) (by decide) rfl (fun ls hl => ?_)
      refine lv_goto (tgt := 18) hx hb dL_law_413 (by decide) ?_
      exact ih (k - 4) (by omega) _ _ _ ⟨i + 4, u, v, by omega, by omega, hR, hP, hD, hS, lv_sub hl [1, 2, 3, 0] rfl⟩
end
section
set_option maxHeartbeats 4000000 in
set_option maxRecDepth 100000 in
/-- THE LAW, from its entry -/
theorem whole_start {p : Program} {e : Env} {s : State} {m : MethodId} {below : List Frame} {meth : Method} {c : Code} (l : Launch) {b L : Nat} {xs : Nat → Int32} (hL : L ≤ 256) (C0 : lw_At p s m meth c b L xs) : W p l e room_1 s m #[Value.ref b] below meth c s.heap [] 0 0 (lw_Z below #[Value.ref b] s) (entryFrame m ([Value.ref b] : List Value).toArray 4) := by
  obtain ⟨hx, hb, hr, hml, hown, hts0, hX, hbl, hlocks, hgv⟩ := id C0
  have hts : ∀ w ∈ lw_all, w.before #[Value.ref b] s = true := fun w h => hts0 w (lw_all_tbl h)
  have hown : s.vm.findClass "CardFilesLaw" = some m.cls := hown
  have hA : ∀ q : Nat, s.heap.size ≤ q → (fun q : Nat => s.heap.size ≤ q) q := fun _ h => h
  have hbA : ¬ (fun q : Nat => s.heap.size ≤ q) b := Nat.not_le.mpr hbl
  obtain ⟨c0, iS0, hKn0⟩ := u_known (C := RX0) (T := TX0) (N := 9) (n := 9) hts in_X0 (hts _ q14)
  obtain ⟨c1, iS1, hKn1⟩ := u_known (C := RX1) (T := TX1) (N := 13) (n := 13) hts in_X1 (hts _ q133)
  obtain ⟨D, hKc⟩ : ∃ D : va_G, ∀ (k : Nat) (q : vw_C), vwCl[k]? = some q → u_Kn s q.1 q.2.1 q.2.2 (D.1 k) (D.2 k) := by
    refine ⟨(fun k => if k = 0 then c0 else c1, fun k => if k = 0 then iS0 else iS1), ?_⟩
    intro k q hq
    match k, hq with
    | 0, hq => cases hq; exact hKn0
    | 1, hq => cases hq; exact hKn1
    | k + 2, hq => simp [vwCl] at hq
  have hS : va_S (fun q : Nat => s.heap.size ≤ q) s.heap s.heap [] := va_S.rf
  have hK : va_K D vwCl [] s := ⟨hKc, fun k q h => by simp at h⟩
  have hP : va_P D vwCl [] s.heap := fun k q h => by simp at h
  have hD : va_D (fun q : Nat => s.heap.size ≤ q) [] := ⟨fun i j p q h => by simp at h, fun k q h => by simp at h⟩
  have hl := lv_entry ([.ref b]) (n := 4) (Nat.le_of_ble_eq_true rfl)
  rw [lg_entry_eq]
  generalize (lg_sl ([.ref b]) ++ List.replicate (4 - (lg_sl ([.ref b])).length) Slot.unset).toArray = ls at hl ⊢
  have hl : lv_has ls 4 [(0, .ref b)] := hl
  refine va_new (D := D) (ci := 0) (fs := [.null, .int 0, .null, .null, .int 0, .int 0, .int 0, .null, .null]) (C := RX0) (T := TX0) (N := 9) hx hb hts in_X0 tyX0 tyX0_ok hown (hts _ q13) (hts _ q14) (hts _ q11) hK hP hD hS hA rfl (fun j hj => by rcases (show j = 0 ∨ j = 1 ∨ j = 2 ∨ j = 3 ∨ j = 4 ∨ j = 5 ∨ j = 6 ∨ j = 7 ∨ j = 8 by omega) with rfl | rfl | rfl | rfl | rfl | rfl | rfl | rfl | rfl <;> rfl) (Nat.le_of_ble_eq_true rfl) (Nat.le_of_ble_eq_true rfl) dL_law_0 (fun x0 H hP hD hS => ?_)
  have hP : va_P D vwCl ([(x0, .inr (0, [.null, .int 0, .null, .null, .int 0, .int 0, .int 0, .null, .null]))]) H := hP
  have hD : va_D (fun q : Nat => s.heap.size ≤ q) ([(x0, .inr (0, [.null, .int 0, .null, .null, .int 0, .int 0, .int 0, .null, .null]))]) := hD
  refine W.widen (k := 1) (n := 9) (Nat.le_of_ble_eq_true rfl) (Nat.le_of_ble_eq_true rfl) ?_
  refine lv_dup hx hb dL_law_3 rfl ?_
  have hPc := hP.sub (ws' := [(x0, .inr (0, [.null, .int 0, .null, .null, .int 0, .int 0, .int 0, .null, .null]))]) [0] rfl
  have hDc := hD.sub (ws' := [(x0, .inr (0, [.null, .int 0, .null, .null, .int 0, .int 0, .int 0, .null, .null]))]) [0] (by decide) rfl
  have hKe := hK.sub (tys' := []) [] rfl
  have hFc := va_free (wc := [(x0, .inr (0, [.null, .int 0, .null, .null, .int 0, .int 0, .int 0, .null, .null]))]) hD hS hA [0] rfl
  refine va_callv (va_runI (As := []) (rest := [.ref x0]) ⟨hx, hb, hml, hown, hts⟩ (mX0_init l D x0 H.size) (cwI 0 hts (lw_meth q17) rfl rfl rfl (hts _ q11) (hts _ q15) (hts _ q16) rfl (by decide +kernel) ⟨(Nat.le_of_ble_eq_true rfl), (Nat.le_of_ble_eq_true rfl)⟩) ⟨fun a U g mk q => by obtain ⟨q0, q1, qP, qK, qD⟩ := q; exact ⟨q0, q1, qP, va_K.moved (u := U) (U := U.calling g mk a) (Vm.Alike.refl U.vm) qK, qD⟩, fun U hU hW => ⟨rfl, by rw [hU], by rw [hU]; exact hPc, va_K.moved hW.alike hKe, hDc.weaken (fun _ _ _ _ => trivial)⟩⟩ rfl rfl hl.1 rfl (lv_room (Nat.le_of_ble_eq_true rfl)) dL_law_4 ⟨(Nat.le_of_ble_eq_true rfl), (Nat.le_of_ble_eq_true rfl)⟩) hS (fun q _ h => hFc q h) hFc (fun u t H1 locs ht hvm hw hB hz1 hk1 hS => ?_)
  obtain ⟨ad, cI, cZ⟩ := u
  obtain ⟨hP1, hK1, hD1⟩ := hB
  rw [ht] at hP1
  have hK1 := va_K.moved hvm.symm hK1
  obtain ⟨hP2, hD2⟩ := va_join (wr := []) (w1 := wX ad cI cZ cf_new) hP hD [0] [] rfl rfl (by decide) (by decide) hk1 hFc hP1 hD1
  generalize H1 = H2 at hP2 hS ⊢
  have hw : x0 = ad 0 := hw.symm
  subst hw
  refine W.widen (k := 6) (n := 373) (Nat.le_of_ble_eq_true rfl) (Nat.le_of_ble_eq_true rfl) ?_
  have hP : va_P D vwCl (wX ad cI cZ cf_new) H2 := hP2
  have hD : va_D (fun q : Nat => s.heap.size ≤ q) (wX ad cI cZ cf_new) := hD2
  have hK : va_K D vwCl (tyW cI cZ) s := hK1
  refine lv_astore_n (lv' := [(1, .ref (ad 0)), (0, .ref b)]) hx hb dL_law_7 rfl hl (by decide) rfl (fun ls hl => ?_)
  refine va_new (D := D) (ci := 1) (fs := [.null, .null, .null, .int 0, .int 0, .int 0, .int 0, .null, .int 0, .null, .null, .null, .int 0]) (C := RX1) (T := TX1) (N := 13) hx hb hts in_X1 tyX1 tyX1_ok hown (hts _ q132) (hts _ q133) (hts _ q12) hK hP hD hS hA rfl (fun j hj => by rcases (show j = 0 ∨ j = 1 ∨ j = 2 ∨ j = 3 ∨ j = 4 ∨ j = 5 ∨ j = 6 ∨ j = 7 ∨ j = 8 ∨ j = 9 ∨ j = 10 ∨ j = 11 ∨ j = 12 by omega) with rfl | rfl | rfl | rfl | rfl | rfl | rfl | rfl | rfl | rfl | rfl | rfl | rfl <;> rfl) (Nat.le_of_ble_eq_true rfl) (Nat.le_of_ble_eq_true rfl) dL_law_8 (fun y0 H hP hD hS => ?_)
  have hP : va_P D vwCl (wX ad cI cZ cf_new ++ [(y0, .inr (1, [.null, .null, .null, .int 0, .int 0, .int 0, .int 0, .null, .int 0, .null, .null, .null, .int 0]))]) H := hP
  have hD : va_D (fun q : Nat => s.heap.size ≤ q) (wX ad cI cZ cf_new ++ [(y0, .inr (1, [.null, .null, .null, .int 0, .int 0, .int 0, .int 0, .null, .int 0, .null, .null, .null, .int 0]))]) := hD
  refine W.widen (k := 7) (n := 386) (Nat.le_of_ble_eq_true rfl) (Nat.le_of_ble_eq_true rfl) ?_
  refine lv_dup hx hb dL_law_11 rfl ?_
  have hPc := hP.sub (ws' := [(y0, .inr (1, [.null, .null, .null, .int 0, .int 0, .int 0, .int 0, .null, .int 0, .null, .null, .null, .int 0]))]) [6] rfl
  have hDc := hD.sub (ws' := [(y0, .inr (1, [.null, .null, .null, .int 0, .int 0, .int 0, .int 0, .null, .int 0, .null, .null, .null, .int 0]))]) [6] (by decide) rfl
  have hKe := hK.sub (tys' := []) [] rfl
  have hFc := va_free (wc := [(y0, .inr (1, [.null, .null, .null, .int 0, .int 0, .int 0, .int 0, .null, .int 0, .null, .null, .null, .int 0]))]) hD hS hA [6] rfl
  refine va_callv (va_runI (As := []) (rest := [.ref y0]) ⟨hx, hb, hml, hown, hts⟩ (mX1_init l D y0 H.size) (cwI 0 hts (lw_meth q136) rfl rfl rfl (hts _ q12) (hts _ q134) (hts _ q135) rfl (by decide +kernel) ⟨(Nat.le_of_ble_eq_true rfl), (Nat.le_of_ble_eq_true rfl)⟩) ⟨fun a U g mk q => by obtain ⟨q0, q1, qP, qK, qD⟩ := q; exact ⟨q0, q1, qP, va_K.moved (u := U) (U := U.calling g mk a) (Vm.Alike.refl U.vm) qK, qD⟩, fun U hU hW => ⟨rfl, by rw [hU], by rw [hU]; exact hPc, va_K.moved hW.alike hKe, hDc.weaken (fun _ _ _ _ => trivial)⟩⟩ rfl rfl hl.1 rfl (lv_room (Nat.le_of_ble_eq_true rfl)) dL_law_12 ⟨(Nat.le_of_ble_eq_true rfl), (Nat.le_of_ble_eq_true rfl)⟩) hS (fun q _ h => hFc q h) hFc (fun u t H1 locs ht hvm hw hB hz1 hk1 hS => ?_)
  obtain ⟨bd, cI2, cZ2⟩ := u
  obtain ⟨hP1, hK1, hD1⟩ := hB
  rw [ht] at hP1
  have hK1 := va_K.moved hvm.symm hK1
  obtain ⟨hP2, hD2⟩ := va_join (wr := wX ad cI cZ cf_new) (w1 := wM bd cI2 cZ2 md_new) hP hD [6] [0, 1, 2, 3, 4, 5] rfl rfl (by decide) (by decide) hk1 hFc hP1 hD1
  generalize H1 = H2 at hP2 hS ⊢
  have hw : y0 = bd 0 := hw.symm
  subst hw
  refine W.widen (k := 14) (n := 698) (Nat.le_of_ble_eq_true rfl) (Nat.le_of_ble_eq_true rfl) ?_
  have hK2 : va_K D vwCl [(cI, .int), (cZ, .boolean), (cI2, .int), (cZ2, .boolean)] s := hK.app hK1
  have e1 : cI = cI2 := Option.some.inj ((show s.vm.findClass _ = some cI from (hK2.2 0 _ rfl).2).symm.trans (show s.vm.findClass _ = some cI2 from (hK2.2 2 _ rfl).2))
  have e2 : cZ = cZ2 := Option.some.inj ((show s.vm.findClass _ = some cZ from (hK2.2 1 _ rfl).2).symm.trans (show s.vm.findClass _ = some cZ2 from (hK2.2 3 _ rfl).2))
  subst e1
  subst e2
  refine lv_astore_n (lv' := [(2, .ref (bd 0)), (1, .ref (ad 0)), (0, .ref b)]) hx hb dL_law_15 rfl hl (by decide) rfl (fun ls hl => ?_)
  refine lv_iconst (v := nI 0) hx hb dL_law_16 (by rfl) ?_
  refine lv_istore_n (lv' := [(3, .int (nI 0)), (2, .ref (bd 0)), (1, .ref (ad 0)), (0, .ref b)]) hx hb dL_law_17 rfl hl (by decide) rfl (fun ls hl => ?_)
  exact law_loop l hL C0 hK (L + 4) _ _ _ ⟨0, cf_new, md_new, by omega, by omega, rl_new, hP2, hD2, hS, lv_sub hl [3, 2, 1, 0] rfl⟩
end
section
set_option maxHeartbeats 4000000 in
theorem lw_walk (l : Launch) (b : Addr) (xs : List Int32) : MetFree l x (headSpec (Jvm.Cond.code x code maxLocals ret :: tables_1) room_1) (lw_P b xs) (fun _ _ _ _ _ => True) lw_Q := by
  refine MetFree.of_bodyS (code := code) (maxLocals := maxLocals) (ret := ret) (by decide) ?_ ?_
  · intro args s m h hn
    obtain ⟨meth, c, h1, h2, h3, h4, h5, h6, -, -⟩ := Cond.code_spec hn (atoms_spec (ws := Jvm.Cond.code x code maxLocals ret :: tables_1) h _ List.mem_cons_self)
    exact ⟨meth, c, h1, h2, h3, h4, h5, h6⟩
  · intro p e s m args below meth c s₁ B hml0 hP _
    obtain ⟨rfl, hx, hbd, hgv⟩ := hP
    obtain ⟨scr, harrAt, hlist, hof, hsmall⟩ := hx
    obtain ⟨hcb, hkn, -, -⟩ := State.arrayAt?_spec harrAt
    have hown : s.vm.findClass R_law = some m.cls := findClass_of_methodNamed B.named
    have hts0 : ∀ c ∈ (Jvm.Cond.code x code maxLocals ret :: tables_1), c.before #[Value.ref b] s = true := atoms_spec (ws := Jvm.Cond.code x code maxLocals ret :: tables_1) B.pre
    have hts : ∀ w ∈ lw_tbl, w.before #[Value.ref b] s = true := k2_hts_sels lw_privs (fun w hw => hts0 w (List.mem_cons_of_mem _ hw)) lw_privs_ok
    have hml : c.maxLocals = 4 := B.maxLocals_eq (hts0 _ List.mem_cons_self)
    have X₀ : Stand p l e room_1 s m #[Value.ref b] below meth c s₁ [] 0 0 := Stand.of_body B
    have hh0 : s₁.heap = s.heap := by rw [B.state]; rfl
    have hsz : scr.slots.size = xs.length := by rw [← Array.length_toList, hlist, List.length_map]
    have hval : ∀ j : Nat, j < xs.length → scr.slots[j]? = some (.int (xs.getD j 0)) := fun j hj => by
      rw [← Array.getElem?_toList, hlist]
      simp [hj]
    have hbl : b < s.heap.size := (Array.getElem?_eq_some_iff.mp hcb).1
    have hX : va_X b xs.length (fun j => xs.getD j 0) s s.heap := ⟨scr, hcb, hof, hkn, hsz, hval⟩
    have K : W p l e room_1 s m #[Value.ref b] below meth c s₁.heap [] 0 0 (lw_Z below #[Value.ref b] s) (entryFrame m ([Value.ref b] : List Value).toArray 4) := by
      rw [hh0]
      exact whole_start l hbd ⟨B.exec, B.bytes, B.returns, hml, hown, hts, hX, hbl, B.notSynchronized, hgv⟩
    obtain ⟨t, a1, o, b1, b2, b3⟩ := K s₁ rfl X₀
    exact ⟨t, o, a1, b1, b2, b3⟩
theorem lw_pre_spec {args : Array Value} {s : State} (h : (Jvm.Cond.and given_1 narrow_1).before args s = true) (hr : rest_1_c.before args s = true) : ∃ (b : Addr) (xs : List Int32), lw_P b xs args s := by
  have hs := flat_of_before _ h
  have hq := flat_of_before _ hr
  have hc : (Cond.count 1).before args s = true := hs _ (by decide +kernel)
  have harr : (Cond.arrayOf (.arg 0) .int).before args s = true := hs _ (by decide +kernel)
  have hle : (Cond.le (.length (.arg 0)) (.int 256)).before args s = true := hs _ (by decide +kernel)
  have hlen : (Cond.isInt (.length (.arg 0))).before args s = true := hq _ (by decide +kernel)
  have hall : (Cond.all (.arg 0) (.isInt (.elem (.arg 0) (.index 0)))).before args s = true := hq _ (by decide +kernel)
  obtain ⟨b, xs, hb, hx⟩ := State.ints_of_pre rfl harr hlen hall
  have hsm : xs.length < 2 ^ 31 := hx.choose_spec.2.2.2
  have hev : (Term.length (.arg 0)).eval args s none [] s = some (.int xs.length.toInt32) := hx.length_eval hb
  have hv := Cond.le_ints hev (show (Term.int 256).eval args s none [] s = some (.int 256) from rfl)
  have hd : xs.length.toInt32 ≤ 256 := by
    simpa [Cond.before, Cond.holds, hv] using hle
  have hN : xs.length ≤ 256 := (Int32.ofNat_le_ofNat hsm (by decide)).mp (show Int32.ofNat xs.length ≤ Int32.ofNat 256 from hd)
  exact ⟨b, xs, Cond.one_arg hc (show args[0]? = some (.ref b) from hb), hx, hN, h⟩
theorem lw_comes (l : Launch) : Comes l x (Jvm.Cond.code x code maxLocals ret :: tables_1) room_1 (fun tb e args s => Calls_1 tb e args s ∧ rest_1 tb e args s ∧ Pre_1 tb e args s)
    (fun _ _ args s o t => lw_Q args s o t) := by
  intro p e ha hc hk s m args below hf hfit hheap happ hpre
  obtain ⟨b, xs, hP⟩ := lw_pre_spec hpre.2.2 hpre.2.1
  obtain ⟨k, o, h1, h2, h3, hQ⟩ := lw_walk l b xs p e ha hc hk s m args below hf ((Spec.applies_iff_loose hf).mp happ).1 hP trivial
  exact ⟨k, o, h1, h2, h3, hQ⟩
theorem lw_frame {s t : State} {o : Outcome} {args : Array Value} (h : Framed s o t [] 600000 7290000) :
    Framed s o t (fieldLocs frame_1_writes args s ++ arrayLocs frame_1_arrays args s ++ staticLocs frame_1_statics s) 600000 7290000 := h
theorem lw_limb (L : Cond) (hL : ∀ (args : Array Value) (s t : State), L.after args s (.returned (some (.int 1))) t = true) :
    ArmFor flags0 classFile x code maxLocals ret World_1 tables_1 room_1 Calls_1 rest_1 Pre_1
      (fun tb e a s o t => postC L tb e a s o t ∧ Framed s o t (fieldLocs frame_1_writes a s ++ arrayLocs frame_1_arrays a s ++ staticLocs frame_1_statics s) 600000 7290000) := by
  intro l _ _ _ p e ha hc hk s m args below hf hfit hheap happ hpre
  obtain ⟨k, o, h1, h2, h3, rfl, hF⟩ := lw_comes l p e ha hc hk s m args below hf hfit hheap happ hpre
  exact ⟨k, _, h1, h2, h3, hL args s _, lw_frame hF⟩
theorem i_vc : Claimed_1_1 ∧ Claimed_1_2 := ⟨lw_limb limb_1_1 (fun args s t => by simp [limb_1_1, Cond.after, Cond.holds, Cond.value]), lw_limb limb_1_2 (fun args s t => Cond.after_iff.mpr (by
  first | (rw [show limb_1_2 = Cond.eq .result (.int 1) from rfl, Cond.eq_ints (x := 1) (y := 1) rfl rfl]; simp; done) | (simp [limb_1_2, Cond.value, Term.eval]; done)))⟩
end
