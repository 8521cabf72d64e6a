section
-- ===== PART A: goes FIRST, ahead of the names: the tables' words, and 'selects' of the private methods out of them =====
/-- a private method of a class that the tables say can be made, by its rows of tables_1 -/
def lw_okq (q : MethodName × Nat) : Prop := (q.1.cls ≠ "java/lang/invoke/MethodHandle" ∧ q.1.cls ≠ "java/lang/invoke/VarHandle") ∧ Cond.instantiable q.1.cls q.2 ∈ tables_1 ∧ Cond.privateMethod q.1 ∈ tables_1 ∧ Cond.instanceMethod q.1 ∈ tables_1
set_option maxRecDepth 100000
theorem lw_p0 : lw_okq (⟨"ProductDesk", "lay", "(Z)V"⟩, 9) := ⟨⟨by decide +kernel, by decide +kernel⟩, List.mem_of_getElem? (i := 5) rfl, List.mem_of_getElem? (i := 81) rfl, List.mem_of_getElem? (i := 82) rfl⟩
theorem lw_p1 : lw_okq (⟨"ProductDesk", "multiply", "(IZ)V"⟩, 9) := ⟨⟨by decide +kernel, by decide +kernel⟩, List.mem_of_getElem? (i := 5) rfl, List.mem_of_getElem? (i := 85) rfl, List.mem_of_getElem? (i := 86) rfl⟩
theorem lw_p2 : lw_okq (⟨"ProductDesk$Ring", "of", "(J)J"⟩, 3) := ⟨⟨by decide +kernel, by decide +kernel⟩, List.mem_of_getElem? (i := 13) rfl, List.mem_of_getElem? (i := 93) rfl, List.mem_of_getElem? (i := 94) rfl⟩
theorem lw_p3 : lw_okq (⟨"ProductDesk$Ring", "weigh", "([JIJ)V"⟩, 3) := ⟨⟨by decide +kernel, by decide +kernel⟩, List.mem_of_getElem? (i := 13) rfl, List.mem_of_getElem? (i := 106) rfl, List.mem_of_getElem? (i := 107) rfl⟩
theorem lw_p4 : lw_okq (⟨"ProductDesk$Ring", "transform", "([JIJ)V"⟩, 3) := ⟨⟨by decide +kernel, by decide +kernel⟩, List.mem_of_getElem? (i := 13) rfl, List.mem_of_getElem? (i := 110) rfl, List.mem_of_getElem? (i := 111) rfl⟩
theorem lw_p5 : lw_okq (⟨"ProductDesk", "fold", "(IZ)V"⟩, 9) := ⟨⟨by decide +kernel, by decide +kernel⟩, List.mem_of_getElem? (i := 5) rfl, List.mem_of_getElem? (i := 132) rfl, List.mem_of_getElem? (i := 133) rfl⟩
theorem lw_p6 : lw_okq (⟨"ProductDeskModel", "clear", "()V"⟩, 5) := ⟨⟨by decide +kernel, by decide +kernel⟩, List.mem_of_getElem? (i := 148) rfl, List.mem_of_getElem? (i := 186) rfl, List.mem_of_getElem? (i := 187) rfl⟩
def lw_privs_1 : List (MethodName × Nat) := [(⟨"ProductDesk", "lay", "(Z)V"⟩, 9), (⟨"ProductDesk", "multiply", "(IZ)V"⟩, 9), (⟨"ProductDesk$Ring", "of", "(J)J"⟩, 3), (⟨"ProductDesk$Ring", "weigh", "([JIJ)V"⟩, 3), (⟨"ProductDesk$Ring", "transform", "([JIJ)V"⟩, 3), (⟨"ProductDesk", "fold", "(IZ)V"⟩, 9), (⟨"ProductDeskModel", "clear", "()V"⟩, 5)]
theorem lw_r1 : ∀ q ∈ lw_privs_1, lw_okq q := List.forall_mem_cons.mpr ⟨lw_p0, List.forall_mem_cons.mpr ⟨lw_p1, List.forall_mem_cons.mpr ⟨lw_p2, List.forall_mem_cons.mpr ⟨lw_p3, List.forall_mem_cons.mpr ⟨lw_p4, List.forall_mem_cons.mpr ⟨lw_p5, List.forall_mem_cons.mpr ⟨lw_p6, fun _ h => absurd h List.not_mem_nil⟩⟩⟩⟩⟩⟩⟩
def lw_privs : List (MethodName × Nat) := lw_privs_1
def lw_tbl : List Cond := k2_sels lw_privs ++ tables_1
theorem lw_privs_ok : ∀ q ∈ lw_privs, lw_okq q := lw_r1
-- ===== ONE list of words for every method: the tables' words that hold all through a run =====
def lw_all : List Cond := lw_tbl.filter goodWord
/-- a word of the tables by its place: claim/WORDS.tsv -/
theorem lw_w {w : Cond} (i : Nat) (h : lw_tbl[i]? = some w) (g : goodWord w = true) : w ∈ lw_all := List.mem_filter.mpr ⟨List.mem_of_getElem? h, g⟩
theorem lw_all_tbl {w : Cond} (h : w ∈ lw_all) : w ∈ lw_tbl := (List.mem_filter.mp h).1
theorem lw_self : GoodIn lw_all lw_all := fun w h => ⟨h, good_of_word (List.mem_filter.mp h).2⟩
/-- a class's field words, by their places -/
theorem lw_in (ws : List Cond) (ps : List Nat) (hp : ws = ps.filterMap (fun i => lw_tbl[i]?)) (hg : ws.all goodWord = true) : ∀ w ∈ ws, w ∈ lw_all := by
  intro w h
  have h1 := List.all_eq_true.mp hg w h
  rw [hp] at h
  obtain ⟨i, -, hi⟩ := List.mem_filterMap.mp h
  exact lw_w i hi h1
/-- the words of a contract for the method y with code b, L locals, answer r -/
abbrev ws_ (y : MethodName) (b : ByteArray) (L : Nat) (r : Option FieldType) : List Cond := Cond.code y b L r :: lw_all
theorem lw_meth {y : MethodName} {b : ByteArray} {L : Nat} {r : Option FieldType} (h : Cond.code y b L r ∈ lw_all) : GoodIn lw_all (ws_ y b L r) := by
  intro w hw
  rcases List.mem_cons.mp hw with e | e
  · rw [e]
    exact lw_self _ h
  · exact lw_self _ e
theorem lw_app {a c : List Cond} (ha : ∀ w ∈ a, w ∈ lw_all) (hc : GoodIn lw_all c) : GoodIn lw_all (a ++ c) := by
  intro w hw
  rcases List.mem_append.mp hw with e | e
  · exact lw_self w (ha w e)
  · exact hc w e
/-- what a call through an object asks: cwV n hts (lw_V ..) -/
theorem lw_V {own : String} {idx : Nat} {C : String} {y : MethodName} {b : ByteArray} {L : Nat} {r : Option FieldType} (h1 : Cond.methodLink own idx y ∈ lw_all) (h2 : Cond.instanceMethod y ∈ lw_all) (h3 : Cond.selects C y y ∈ lw_all) (h4 : Cond.initialized C ∈ lw_all) (h5 : Cond.code y b L r ∈ lw_all) : GoodIn lw_all (wsV own idx C y (ws_ y b L r)) := by
  refine lw_app ?_ (lw_meth h5)
  intro w hw
  simp only [List.mem_cons, List.not_mem_nil, or_false] at hw
  rcases hw with e | e | e | e
  · rw [e]; exact h1
  · rw [e]; exact h2
  · rw [e]; exact h3
  · rw [e]; exact h4
/-- what a static call asks: va_cwS n hts (lw_S ..) -/
theorem lw_S {own : String} {idx : Nat} {y : MethodName} {b : ByteArray} {L : Nat} {r : Option FieldType} (h1 : Cond.methodLink own idx y ∈ lw_all) (h2 : Cond.static y ∈ lw_all) (h3 : Cond.initialized y.cls ∈ lw_all) (h4 : Cond.code y b L r ∈ lw_all) : GoodIn lw_all (va_wsS own idx y (ws_ y b L r)) := by
  refine lw_app ?_ (lw_meth h4)
  intro w hw
  simp only [List.mem_cons, List.not_mem_nil, or_false] at hw
  rcases hw with e | e | e
  · rw [e]; exact h1
  · rw [e]; exact h2
  · rw [e]; exact h3
/-- the words of a contract for a method WITH HANDLERS (hh: its table) -/
abbrev wsW_ (y : MethodName) (b : ByteArray) (L : Nat) (r : Option FieldType) (hh : List (Nat × Nat × Nat × Nat)) : List Cond := Cond.codeWith y b L r hh :: lw_all
theorem lw_methW {y : MethodName} {b : ByteArray} {L : Nat} {r : Option FieldType} {hh : List (Nat × Nat × Nat × Nat)} (h : Cond.codeWith y b L r hh ∈ lw_all) : GoodIn lw_all (wsW_ y b L r hh) := by
  intro w hw
  rcases List.mem_cons.mp hw with e | e
  · rw [e]
    exact lw_self _ h
  · exact lw_self _ e
/-- any list of words by their places (lw_in), good -/
theorem lw_good {ws : List Cond} (h : ∀ w ∈ ws, w ∈ lw_all) : GoodIn lw_all ws := fun w hw => lw_self w (h w hw)
/-- what a call of a method with handlers asks: vx_cwVW n hts (lw_VW ..), vx_cwSW n hts (lw_SW ..) -/
theorem lw_VW {own : String} {idx : Nat} {C : String} {y : MethodName} {b : ByteArray} {L : Nat} {r : Option FieldType} {hh : List (Nat × Nat × Nat × Nat)} (h1 : Cond.methodLink own idx y ∈ lw_all) (h2 : Cond.instanceMethod y ∈ lw_all) (h3 : Cond.selects C y y ∈ lw_all) (h4 : Cond.initialized C ∈ lw_all) (h5 : Cond.codeWith y b L r hh ∈ lw_all) : GoodIn lw_all (wsV own idx C y (wsW_ y b L r hh)) := by
  refine lw_app ?_ (lw_methW h5)
  intro w hw
  simp only [List.mem_cons, List.not_mem_nil, or_false] at hw
  rcases hw with e | e | e | e
  · rw [e]; exact h1
  · rw [e]; exact h2
  · rw [e]; exact h3
  · rw [e]; exact h4
theorem lw_SW {own : String} {idx : Nat} {y : MethodName} {b : ByteArray} {L : Nat} {r : Option FieldType} {hh : List (Nat × Nat × Nat × Nat)} (h1 : Cond.methodLink own idx y ∈ lw_all) (h2 : Cond.static y ∈ lw_all) (h3 : Cond.initialized y.cls ∈ lw_all) (h4 : Cond.codeWith y b L r hh ∈ lw_all) : GoodIn lw_all (va_wsS own idx y (wsW_ y b L r hh)) := by
  refine lw_app ?_ (lw_methW h4)
  intro w hw
  simp only [List.mem_cons, List.not_mem_nil, or_false] at hw
  rcases hw with e | e | e
  · rw [e]; exact h1
  · rw [e]; exact h2
  · rw [e]; exact h3
/-- a word by its place in its run of the tables -/
theorem lw_at {r : List Cond} (hr : ∀ w ∈ r, w ∈ lw_tbl) {w : Cond} (i : Nat) (h : r[i]? = some w) : w ∈ lw_tbl := hr w (List.mem_of_getElem? h)
theorem lw_g {w : Cond} (h : w ∈ lw_tbl) (g : goodWord w = true) : w ∈ lw_all := List.mem_filter.mpr ⟨h, g⟩
theorem lw_ms : ∀ w ∈ k2_sels lw_privs, w ∈ lw_tbl := fun w h => show w ∈ k2_sels lw_privs ++ tables_1 from List.mem_append_left _ h
theorem lw_m0 : ∀ w ∈ tables_1, w ∈ lw_tbl := fun w h => show w ∈ k2_sels lw_privs ++ tables_1 from List.mem_append_right (k2_sels lw_privs) h
theorem qs0 : (Cond.selects "ProductDesk" ⟨"ProductDesk", "lay", "(Z)V"⟩ ⟨"ProductDesk", "lay", "(Z)V"⟩) ∈ lw_all := lw_g (lw_at lw_ms 0 rfl) rfl
theorem qs1 : (Cond.selects "ProductDesk" ⟨"ProductDesk", "multiply", "(IZ)V"⟩ ⟨"ProductDesk", "multiply", "(IZ)V"⟩) ∈ lw_all := lw_g (lw_at lw_ms 1 rfl) rfl
theorem qs2 : (Cond.selects "ProductDesk$Ring" ⟨"ProductDesk$Ring", "of", "(J)J"⟩ ⟨"ProductDesk$Ring", "of", "(J)J"⟩) ∈ lw_all := lw_g (lw_at lw_ms 2 rfl) rfl
theorem qs3 : (Cond.selects "ProductDesk$Ring" ⟨"ProductDesk$Ring", "weigh", "([JIJ)V"⟩ ⟨"ProductDesk$Ring", "weigh", "([JIJ)V"⟩) ∈ lw_all := lw_g (lw_at lw_ms 3 rfl) rfl
theorem qs4 : (Cond.selects "ProductDesk$Ring" ⟨"ProductDesk$Ring", "transform", "([JIJ)V"⟩ ⟨"ProductDesk$Ring", "transform", "([JIJ)V"⟩) ∈ lw_all := lw_g (lw_at lw_ms 4 rfl) rfl
theorem qs5 : (Cond.selects "ProductDesk" ⟨"ProductDesk", "fold", "(IZ)V"⟩ ⟨"ProductDesk", "fold", "(IZ)V"⟩) ∈ lw_all := lw_g (lw_at lw_ms 5 rfl) rfl
theorem qs6 : (Cond.selects "ProductDeskModel" ⟨"ProductDeskModel", "clear", "()V"⟩ ⟨"ProductDeskModel", "clear", "()V"⟩) ∈ lw_all := lw_g (lw_at lw_ms 6 rfl) rfl
end
section
/-! ProductDesk -/
set_option maxRecDepth 100000
def RX0 : String := "ProductDesk"
def TX0 : u_T := fun k => match k with
  | 0 => ("ProductDesk", "first", "LProductDesk$Ring;", true)
  | 1 => ("ProductDesk", "second", "LProductDesk$Ring;", true)
  | 2 => ("ProductDesk", "left", "[I", true)
  | 3 => ("ProductDesk", "right", "[I", true)
  | 4 => ("ProductDesk", "z", "[J", true)
  | 5 => ("ProductDesk", "x", "[J", true)
  | 6 => ("ProductDesk", "y", "[J", true)
  | 7 => ("ProductDesk", "lefts", "I", false)
  | _ => ("ProductDesk", "rights", "I", false)
def tyX0 : Nat → FieldType := fun k => match k with
  | 0 => .object "ProductDesk$Ring"
  | 1 => .object "ProductDesk$Ring"
  | 2 => .array .int
  | 3 => .array .int
  | 4 => .array .long
  | 5 => .array .long
  | 6 => .array .long
  | 7 => .int
  | _ => .int
abbrev wsX00 : List Cond := u_ws RX0 TX0 9
theorem nmX0 : ∀ a, a < 9 → ∀ b, b < 9 → a ≠ b → (TX0 a).2.1 ≠ (TX0 b).2.1 := by decide +kernel
theorem tyX0_ok : ∀ k, k < 9 → parseFieldDescriptor (TX0 k).2.2.1 = some (tyX0 k) := by decide +kernel
abbrev cX0_init : ByteArray := prog_1_method_1_code
def yX0_init : MethodName := ⟨RX0, "<init>", "()V"⟩
theorem dX0_init_0 : decode cX0_init 0 = .ok (.aload_n 0, 1) := by decide +kernel
theorem dX0_init_1 : decode cX0_init 1 = .ok (.invokespecial 1, 3) := by decide +kernel
theorem dX0_init_4 : decode cX0_init 4 = .ok (.aload_n 0, 1) := by decide +kernel
theorem dX0_init_5 : decode cX0_init 5 = .ok (.new 7, 3) := by decide +kernel
theorem dX0_init_8 : decode cX0_init 8 = .ok (.dup, 1) := by decide +kernel
theorem dX0_init_9 : decode cX0_init 9 = .ok (.ldc2_w 9, 3) := by decide +kernel
theorem dX0_init_12 : decode cX0_init 12 = .ok (.invokespecial 11, 3) := by decide +kernel
theorem dX0_init_15 : decode cX0_init 15 = .ok (.putfield 14, 3) := by decide +kernel
theorem dX0_init_18 : decode cX0_init 18 = .ok (.aload_n 0, 1) := by decide +kernel
theorem dX0_init_19 : decode cX0_init 19 = .ok (.new 7, 3) := by decide +kernel
theorem dX0_init_22 : decode cX0_init 22 = .ok (.dup, 1) := by decide +kernel
theorem dX0_init_23 : decode cX0_init 23 = .ok (.ldc2_w 20, 3) := by decide +kernel
theorem dX0_init_26 : decode cX0_init 26 = .ok (.invokespecial 11, 3) := by decide +kernel
theorem dX0_init_29 : decode cX0_init 29 = .ok (.putfield 22, 3) := by decide +kernel
theorem dX0_init_32 : decode cX0_init 32 = .ok (.aload_n 0, 1) := by decide +kernel
theorem dX0_init_33 : decode cX0_init 33 = .ok (.sipush 256, 3) := by decide +kernel
theorem dX0_init_36 : decode cX0_init 36 = .ok (.newarray .int, 2) := by decide +kernel
theorem dX0_init_38 : decode cX0_init 38 = .ok (.putfield 25, 3) := by decide +kernel
theorem dX0_init_41 : decode cX0_init 41 = .ok (.aload_n 0, 1) := by decide +kernel
theorem dX0_init_42 : decode cX0_init 42 = .ok (.sipush 256, 3) := by decide +kernel
theorem dX0_init_45 : decode cX0_init 45 = .ok (.newarray .int, 2) := by decide +kernel
theorem dX0_init_47 : decode cX0_init 47 = .ok (.putfield 29, 3) := by decide +kernel
theorem dX0_init_50 : decode cX0_init 50 = .ok (.aload_n 0, 1) := by decide +kernel
theorem dX0_init_51 : decode cX0_init 51 = .ok (.sipush 512, 3) := by decide +kernel
theorem dX0_init_54 : decode cX0_init 54 = .ok (.newarray .long, 2) := by decide +kernel
theorem dX0_init_56 : decode cX0_init 56 = .ok (.putfield 32, 3) := by decide +kernel
theorem dX0_init_59 : decode cX0_init 59 = .ok (.aload_n 0, 1) := by decide +kernel
theorem dX0_init_60 : decode cX0_init 60 = .ok (.sipush 512, 3) := by decide +kernel
theorem dX0_init_63 : decode cX0_init 63 = .ok (.newarray .long, 2) := by decide +kernel
theorem dX0_init_65 : decode cX0_init 65 = .ok (.putfield 36, 3) := by decide +kernel
theorem dX0_init_68 : decode cX0_init 68 = .ok (.aload_n 0, 1) := by decide +kernel
theorem dX0_init_69 : decode cX0_init 69 = .ok (.sipush 512, 3) := by decide +kernel
theorem dX0_init_72 : decode cX0_init 72 = .ok (.newarray .long, 2) := by decide +kernel
theorem dX0_init_74 : decode cX0_init 74 = .ok (.putfield 39, 3) := by decide +kernel
theorem dX0_init_77 : decode cX0_init 77 = .ok (.return_, 1) := by decide +kernel
abbrev cX0_left : ByteArray := prog_1_method_3_code
def yX0_left : MethodName := ⟨RX0, "left", "(IIII)Z"⟩
theorem dX0_left_0 : decode cX0_left 0 = .ok (.aload_n 0, 1) := by decide +kernel
theorem dX0_left_1 : decode cX0_left 1 = .ok (.getfield 42, 3) := by decide +kernel
theorem dX0_left_4 : decode cX0_left 4 = .ok (.iconst 4, 1) := by decide +kernel
theorem dX0_left_5 : decode cX0_left 5 = .ok (.iadd, 1) := by decide +kernel
theorem dX0_left_6 : decode cX0_left 6 = .ok (.sipush 256, 3) := by decide +kernel
theorem dX0_left_9 : decode cX0_left 9 = .ok (.if_icmp .le 5, 3) := by decide +kernel
theorem dX0_left_12 : decode cX0_left 12 = .ok (.iconst 0, 1) := by decide +kernel
theorem dX0_left_13 : decode cX0_left 13 = .ok (.ireturn, 1) := by decide +kernel
theorem dX0_left_14 : decode cX0_left 14 = .ok (.aload_n 0, 1) := by decide +kernel
theorem dX0_left_15 : decode cX0_left 15 = .ok (.getfield 25, 3) := by decide +kernel
theorem dX0_left_18 : decode cX0_left 18 = .ok (.aload_n 0, 1) := by decide +kernel
theorem dX0_left_19 : decode cX0_left 19 = .ok (.getfield 42, 3) := by decide +kernel
theorem dX0_left_22 : decode cX0_left 22 = .ok (.iload_n 1, 1) := by decide +kernel
theorem dX0_left_23 : decode cX0_left 23 = .ok (.invokestatic 46, 3) := by decide +kernel
theorem dX0_left_26 : decode cX0_left 26 = .ok (.iastore, 1) := by decide +kernel
theorem dX0_left_27 : decode cX0_left 27 = .ok (.aload_n 0, 1) := by decide +kernel
theorem dX0_left_28 : decode cX0_left 28 = .ok (.getfield 25, 3) := by decide +kernel
theorem dX0_left_31 : decode cX0_left 31 = .ok (.aload_n 0, 1) := by decide +kernel
theorem dX0_left_32 : decode cX0_left 32 = .ok (.getfield 42, 3) := by decide +kernel
theorem dX0_left_35 : decode cX0_left 35 = .ok (.iconst 1, 1) := by decide +kernel
theorem dX0_left_36 : decode cX0_left 36 = .ok (.iadd, 1) := by decide +kernel
theorem dX0_left_37 : decode cX0_left 37 = .ok (.iload_n 2, 1) := by decide +kernel
theorem dX0_left_38 : decode cX0_left 38 = .ok (.invokestatic 46, 3) := by decide +kernel
theorem dX0_left_41 : decode cX0_left 41 = .ok (.iastore, 1) := by decide +kernel
theorem dX0_left_42 : decode cX0_left 42 = .ok (.aload_n 0, 1) := by decide +kernel
theorem dX0_left_43 : decode cX0_left 43 = .ok (.getfield 25, 3) := by decide +kernel
theorem dX0_left_46 : decode cX0_left 46 = .ok (.aload_n 0, 1) := by decide +kernel
theorem dX0_left_47 : decode cX0_left 47 = .ok (.getfield 42, 3) := by decide +kernel
theorem dX0_left_50 : decode cX0_left 50 = .ok (.iconst 2, 1) := by decide +kernel
theorem dX0_left_51 : decode cX0_left 51 = .ok (.iadd, 1) := by decide +kernel
theorem dX0_left_52 : decode cX0_left 52 = .ok (.iload_n 3, 1) := by decide +kernel
theorem dX0_left_53 : decode cX0_left 53 = .ok (.invokestatic 46, 3) := by decide +kernel
theorem dX0_left_56 : decode cX0_left 56 = .ok (.iastore, 1) := by decide +kernel
theorem dX0_left_57 : decode cX0_left 57 = .ok (.aload_n 0, 1) := by decide +kernel
theorem dX0_left_58 : decode cX0_left 58 = .ok (.getfield 25, 3) := by decide +kernel
theorem dX0_left_61 : decode cX0_left 61 = .ok (.aload_n 0, 1) := by decide +kernel
theorem dX0_left_62 : decode cX0_left 62 = .ok (.getfield 42, 3) := by decide +kernel
theorem dX0_left_65 : decode cX0_left 65 = .ok (.iconst 3, 1) := by decide +kernel
theorem dX0_left_66 : decode cX0_left 66 = .ok (.iadd, 1) := by decide +kernel
theorem dX0_left_67 : decode cX0_left 67 = .ok (.iload 4, 2) := by decide +kernel
theorem dX0_left_69 : decode cX0_left 69 = .ok (.invokestatic 46, 3) := by decide +kernel
theorem dX0_left_72 : decode cX0_left 72 = .ok (.iastore, 1) := by decide +kernel
theorem dX0_left_73 : decode cX0_left 73 = .ok (.aload_n 0, 1) := by decide +kernel
theorem dX0_left_74 : decode cX0_left 74 = .ok (.dup, 1) := by decide +kernel
theorem dX0_left_75 : decode cX0_left 75 = .ok (.getfield 42, 3) := by decide +kernel
theorem dX0_left_78 : decode cX0_left 78 = .ok (.iconst 4, 1) := by decide +kernel
theorem dX0_left_79 : decode cX0_left 79 = .ok (.iadd, 1) := by decide +kernel
theorem dX0_left_80 : decode cX0_left 80 = .ok (.putfield 42, 3) := by decide +kernel
theorem dX0_left_83 : decode cX0_left 83 = .ok (.iconst 1, 1) := by decide +kernel
theorem dX0_left_84 : decode cX0_left 84 = .ok (.ireturn, 1) := by decide +kernel
abbrev cX0_number : ByteArray := prog_1_method_2_code
def yX0_number : MethodName := ⟨RX0, "number", "(I)I"⟩
theorem dX0_number_0 : decode cX0_number 0 = .ok (.iload_n 0, 1) := by decide +kernel
theorem dX0_number_1 : decode cX0_number 1 = .ok (.bipush 12, 2) := by decide +kernel
theorem dX0_number_3 : decode cX0_number 3 = .ok (.ishl, 1) := by decide +kernel
theorem dX0_number_4 : decode cX0_number 4 = .ok (.bipush 12, 2) := by decide +kernel
theorem dX0_number_6 : decode cX0_number 6 = .ok (.ishr, 1) := by decide +kernel
theorem dX0_number_7 : decode cX0_number 7 = .ok (.ireturn, 1) := by decide +kernel
abbrev cX0_right : ByteArray := prog_1_method_4_code
def yX0_right : MethodName := ⟨RX0, "right", "(IIII)Z"⟩
theorem dX0_right_0 : decode cX0_right 0 = .ok (.aload_n 0, 1) := by decide +kernel
theorem dX0_right_1 : decode cX0_right 1 = .ok (.getfield 50, 3) := by decide +kernel
theorem dX0_right_4 : decode cX0_right 4 = .ok (.iconst 4, 1) := by decide +kernel
theorem dX0_right_5 : decode cX0_right 5 = .ok (.iadd, 1) := by decide +kernel
theorem dX0_right_6 : decode cX0_right 6 = .ok (.sipush 256, 3) := by decide +kernel
theorem dX0_right_9 : decode cX0_right 9 = .ok (.if_icmp .le 5, 3) := by decide +kernel
theorem dX0_right_12 : decode cX0_right 12 = .ok (.iconst 0, 1) := by decide +kernel
theorem dX0_right_13 : decode cX0_right 13 = .ok (.ireturn, 1) := by decide +kernel
theorem dX0_right_14 : decode cX0_right 14 = .ok (.aload_n 0, 1) := by decide +kernel
theorem dX0_right_15 : decode cX0_right 15 = .ok (.getfield 29, 3) := by decide +kernel
theorem dX0_right_18 : decode cX0_right 18 = .ok (.aload_n 0, 1) := by decide +kernel
theorem dX0_right_19 : decode cX0_right 19 = .ok (.getfield 50, 3) := by decide +kernel
theorem dX0_right_22 : decode cX0_right 22 = .ok (.iload_n 1, 1) := by decide +kernel
theorem dX0_right_23 : decode cX0_right 23 = .ok (.invokestatic 46, 3) := by decide +kernel
theorem dX0_right_26 : decode cX0_right 26 = .ok (.iastore, 1) := by decide +kernel
theorem dX0_right_27 : decode cX0_right 27 = .ok (.aload_n 0, 1) := by decide +kernel
theorem dX0_right_28 : decode cX0_right 28 = .ok (.getfield 29, 3) := by decide +kernel
theorem dX0_right_31 : decode cX0_right 31 = .ok (.aload_n 0, 1) := by decide +kernel
theorem dX0_right_32 : decode cX0_right 32 = .ok (.getfield 50, 3) := by decide +kernel
theorem dX0_right_35 : decode cX0_right 35 = .ok (.iconst 1, 1) := by decide +kernel
theorem dX0_right_36 : decode cX0_right 36 = .ok (.iadd, 1) := by decide +kernel
theorem dX0_right_37 : decode cX0_right 37 = .ok (.iload_n 2, 1) := by decide +kernel
theorem dX0_right_38 : decode cX0_right 38 = .ok (.invokestatic 46, 3) := by decide +kernel
theorem dX0_right_41 : decode cX0_right 41 = .ok (.iastore, 1) := by decide +kernel
theorem dX0_right_42 : decode cX0_right 42 = .ok (.aload_n 0, 1) := by decide +kernel
theorem dX0_right_43 : decode cX0_right 43 = .ok (.getfield 29, 3) := by decide +kernel
theorem dX0_right_46 : decode cX0_right 46 = .ok (.aload_n 0, 1) := by decide +kernel
theorem dX0_right_47 : decode cX0_right 47 = .ok (.getfield 50, 3) := by decide +kernel
theorem dX0_right_50 : decode cX0_right 50 = .ok (.iconst 2, 1) := by decide +kernel
theorem dX0_right_51 : decode cX0_right 51 = .ok (.iadd, 1) := by decide +kernel
theorem dX0_right_52 : decode cX0_right 52 = .ok (.iload_n 3, 1) := by decide +kernel
theorem dX0_right_53 : decode cX0_right 53 = .ok (.invokestatic 46, 3) := by decide +kernel
theorem dX0_right_56 : decode cX0_right 56 = .ok (.iastore, 1) := by decide +kernel
theorem dX0_right_57 : decode cX0_right 57 = .ok (.aload_n 0, 1) := by decide +kernel
theorem dX0_right_58 : decode cX0_right 58 = .ok (.getfield 29, 3) := by decide +kernel
theorem dX0_right_61 : decode cX0_right 61 = .ok (.aload_n 0, 1) := by decide +kernel
theorem dX0_right_62 : decode cX0_right 62 = .ok (.getfield 50, 3) := by decide +kernel
theorem dX0_right_65 : decode cX0_right 65 = .ok (.iconst 3, 1) := by decide +kernel
theorem dX0_right_66 : decode cX0_right 66 = .ok (.iadd, 1) := by decide +kernel
theorem dX0_right_67 : decode cX0_right 67 = .ok (.iload 4, 2) := by decide +kernel
theorem dX0_right_69 : decode cX0_right 69 = .ok (.invokestatic 46, 3) := by decide +kernel
theorem dX0_right_72 : decode cX0_right 72 = .ok (.iastore, 1) := by decide +kernel
theorem dX0_right_73 : decode cX0_right 73 = .ok (.aload_n 0, 1) := by decide +kernel
theorem dX0_right_74 : decode cX0_right 74 = .ok (.dup, 1) := by decide +kernel
theorem dX0_right_75 : decode cX0_right 75 = .ok (.getfield 50, 3) := by decide +kernel
theorem dX0_right_78 : decode cX0_right 78 = .ok (.iconst 4, 1) := by decide +kernel
theorem dX0_right_79 : decode cX0_right 79 = .ok (.iadd, 1) := by decide +kernel
theorem dX0_right_80 : decode cX0_right 80 = .ok (.putfield 50, 3) := by decide +kernel
theorem dX0_right_83 : decode cX0_right 83 = .ok (.iconst 1, 1) := by decide +kernel
theorem dX0_right_84 : decode cX0_right 84 = .ok (.ireturn, 1) := by decide +kernel
abbrev cX0_wipe : ByteArray := prog_1_method_5_code
def yX0_wipe : MethodName := ⟨RX0, "wipe", "(I)V"⟩
theorem dX0_wipe_0 : decode cX0_wipe 0 = .ok (.iload_n 1, 1) := by decide +kernel
theorem dX0_wipe_1 : decode cX0_wipe 1 = .ok (.iconst 1, 1) := by decide +kernel
theorem dX0_wipe_2 : decode cX0_wipe 2 = .ok (.iand, 1) := by decide +kernel
theorem dX0_wipe_3 : decode cX0_wipe 3 = .ok (.ifCond .ne 11, 3) := by decide +kernel
theorem dX0_wipe_6 : decode cX0_wipe 6 = .ok (.aload_n 0, 1) := by decide +kernel
theorem dX0_wipe_7 : decode cX0_wipe 7 = .ok (.iconst 0, 1) := by decide +kernel
theorem dX0_wipe_8 : decode cX0_wipe 8 = .ok (.putfield 42, 3) := by decide +kernel
theorem dX0_wipe_11 : decode cX0_wipe 11 = .ok (.goto 8, 3) := by decide +kernel
theorem dX0_wipe_14 : decode cX0_wipe 14 = .ok (.aload_n 0, 1) := by decide +kernel
theorem dX0_wipe_15 : decode cX0_wipe 15 = .ok (.iconst 0, 1) := by decide +kernel
theorem dX0_wipe_16 : decode cX0_wipe 16 = .ok (.putfield 50, 3) := by decide +kernel
theorem dX0_wipe_19 : decode cX0_wipe 19 = .ok (.return_, 1) := by decide +kernel
abbrev cX0_product : ByteArray := prog_1_method_8_code
def yX0_product : MethodName := ⟨RX0, "product", "()V"⟩
theorem dX0_product_0 : decode cX0_product 0 = .ok (.aload_n 0, 1) := by decide +kernel
theorem dX0_product_1 : decode cX0_product 1 = .ok (.iconst 0, 1) := by decide +kernel
theorem dX0_product_2 : decode cX0_product 2 = .ok (.invokevirtual 71, 3) := by decide +kernel
theorem dX0_product_5 : decode cX0_product 5 = .ok (.aload_n 0, 1) := by decide +kernel
theorem dX0_product_6 : decode cX0_product 6 = .ok (.sipush 512, 3) := by decide +kernel
theorem dX0_product_9 : decode cX0_product 9 = .ok (.iconst 0, 1) := by decide +kernel
theorem dX0_product_10 : decode cX0_product 10 = .ok (.invokevirtual 75, 3) := by decide +kernel
theorem dX0_product_13 : decode cX0_product 13 = .ok (.return_, 1) := by decide +kernel
abbrev cX0_lay : ByteArray := prog_1_method_7_code
def yX0_lay : MethodName := ⟨RX0, "lay", "(Z)V"⟩
theorem dX0_lay_0 : decode cX0_lay 0 = .ok (.iconst 0, 1) := by decide +kernel
theorem dX0_lay_1 : decode cX0_lay 1 = .ok (.istore_n 2, 1) := by decide +kernel
theorem dX0_lay_2 : decode cX0_lay 2 = .ok (.iload_n 2, 1) := by decide +kernel
theorem dX0_lay_3 : decode cX0_lay 3 = .ok (.sipush 512, 3) := by decide +kernel
theorem dX0_lay_6 : decode cX0_lay 6 = .ok (.if_icmp .ge 41, 3) := by decide +kernel
theorem dX0_lay_9 : decode cX0_lay 9 = .ok (.aload_n 0, 1) := by decide +kernel
theorem dX0_lay_10 : decode cX0_lay 10 = .ok (.getfield 36, 3) := by decide +kernel
theorem dX0_lay_13 : decode cX0_lay 13 = .ok (.iload_n 2, 1) := by decide +kernel
theorem dX0_lay_14 : decode cX0_lay 14 = .ok (.iload_n 2, 1) := by decide +kernel
theorem dX0_lay_15 : decode cX0_lay 15 = .ok (.aload_n 0, 1) := by decide +kernel
theorem dX0_lay_16 : decode cX0_lay 16 = .ok (.getfield 42, 3) := by decide +kernel
theorem dX0_lay_19 : decode cX0_lay 19 = .ok (.if_icmp .ge 13, 3) := by decide +kernel
theorem dX0_lay_22 : decode cX0_lay 22 = .ok (.aload_n 0, 1) := by decide +kernel
theorem dX0_lay_23 : decode cX0_lay 23 = .ok (.getfield 25, 3) := by decide +kernel
theorem dX0_lay_26 : decode cX0_lay 26 = .ok (.iload_n 2, 1) := by decide +kernel
theorem dX0_lay_27 : decode cX0_lay 27 = .ok (.iaload, 1) := by decide +kernel
theorem dX0_lay_28 : decode cX0_lay 28 = .ok (.i2l, 1) := by decide +kernel
theorem dX0_lay_29 : decode cX0_lay 29 = .ok (.goto 4, 3) := by decide +kernel
theorem dX0_lay_32 : decode cX0_lay 32 = .ok (.lconst 0, 1) := by decide +kernel
theorem dX0_lay_33 : decode cX0_lay 33 = .ok (.lastore, 1) := by decide +kernel
theorem dX0_lay_34 : decode cX0_lay 34 = .ok (.aload_n 0, 1) := by decide +kernel
theorem dX0_lay_35 : decode cX0_lay 35 = .ok (.getfield 39, 3) := by decide +kernel
theorem dX0_lay_38 : decode cX0_lay 38 = .ok (.iload_n 2, 1) := by decide +kernel
theorem dX0_lay_39 : decode cX0_lay 39 = .ok (.lconst 0, 1) := by decide +kernel
theorem dX0_lay_40 : decode cX0_lay 40 = .ok (.lastore, 1) := by decide +kernel
theorem dX0_lay_41 : decode cX0_lay 41 = .ok (.iinc 2 1, 3) := by decide +kernel
theorem dX0_lay_44 : decode cX0_lay 44 = .ok (.goto (-42), 3) := by decide +kernel
theorem dX0_lay_47 : decode cX0_lay 47 = .ok (.iconst 0, 1) := by decide +kernel
theorem dX0_lay_48 : decode cX0_lay 48 = .ok (.istore_n 2, 1) := by decide +kernel
theorem dX0_lay_49 : decode cX0_lay 49 = .ok (.iload_n 2, 1) := by decide +kernel
theorem dX0_lay_50 : decode cX0_lay 50 = .ok (.aload_n 0, 1) := by decide +kernel
theorem dX0_lay_51 : decode cX0_lay 51 = .ok (.getfield 50, 3) := by decide +kernel
theorem dX0_lay_54 : decode cX0_lay 54 = .ok (.if_icmp .ge 34, 3) := by decide +kernel
theorem dX0_lay_57 : decode cX0_lay 57 = .ok (.aload_n 0, 1) := by decide +kernel
theorem dX0_lay_58 : decode cX0_lay 58 = .ok (.getfield 39, 3) := by decide +kernel
theorem dX0_lay_61 : decode cX0_lay 61 = .ok (.iload_n 1, 1) := by decide +kernel
theorem dX0_lay_62 : decode cX0_lay 62 = .ok (.ifCond .eq 11, 3) := by decide +kernel
theorem dX0_lay_65 : decode cX0_lay 65 = .ok (.sipush 255, 3) := by decide +kernel
theorem dX0_lay_68 : decode cX0_lay 68 = .ok (.iload_n 2, 1) := by decide +kernel
theorem dX0_lay_69 : decode cX0_lay 69 = .ok (.isub, 1) := by decide +kernel
theorem dX0_lay_70 : decode cX0_lay 70 = .ok (.goto 4, 3) := by decide +kernel
theorem dX0_lay_73 : decode cX0_lay 73 = .ok (.iload_n 2, 1) := by decide +kernel
theorem dX0_lay_74 : decode cX0_lay 74 = .ok (.aload_n 0, 1) := by decide +kernel
theorem dX0_lay_75 : decode cX0_lay 75 = .ok (.getfield 29, 3) := by decide +kernel
theorem dX0_lay_78 : decode cX0_lay 78 = .ok (.iload_n 2, 1) := by decide +kernel
theorem dX0_lay_79 : decode cX0_lay 79 = .ok (.iaload, 1) := by decide +kernel
theorem dX0_lay_80 : decode cX0_lay 80 = .ok (.i2l, 1) := by decide +kernel
theorem dX0_lay_81 : decode cX0_lay 81 = .ok (.lastore, 1) := by decide +kernel
theorem dX0_lay_82 : decode cX0_lay 82 = .ok (.iinc 2 1, 3) := by decide +kernel
theorem dX0_lay_85 : decode cX0_lay 85 = .ok (.goto (-36), 3) := by decide +kernel
theorem dX0_lay_88 : decode cX0_lay 88 = .ok (.return_, 1) := by decide +kernel
abbrev cX0_multiply : ByteArray := prog_1_method_6_code
def yX0_multiply : MethodName := ⟨RX0, "multiply", "(IZ)V"⟩
theorem dX0_multiply_0 : decode cX0_multiply 0 = .ok (.aload_n 0, 1) := by decide +kernel
theorem dX0_multiply_1 : decode cX0_multiply 1 = .ok (.getfield 14, 3) := by decide +kernel
theorem dX0_multiply_4 : decode cX0_multiply 4 = .ok (.aload_n 0, 1) := by decide +kernel
theorem dX0_multiply_5 : decode cX0_multiply 5 = .ok (.getfield 36, 3) := by decide +kernel
theorem dX0_multiply_8 : decode cX0_multiply 8 = .ok (.aload_n 0, 1) := by decide +kernel
theorem dX0_multiply_9 : decode cX0_multiply 9 = .ok (.getfield 39, 3) := by decide +kernel
theorem dX0_multiply_12 : decode cX0_multiply 12 = .ok (.iload_n 1, 1) := by decide +kernel
theorem dX0_multiply_13 : decode cX0_multiply 13 = .ok (.iload_n 2, 1) := by decide +kernel
theorem dX0_multiply_14 : decode cX0_multiply 14 = .ok (.invokevirtual 53, 3) := by decide +kernel
theorem dX0_multiply_17 : decode cX0_multiply 17 = .ok (.aload_n 0, 1) := by decide +kernel
theorem dX0_multiply_18 : decode cX0_multiply 18 = .ok (.getfield 22, 3) := by decide +kernel
theorem dX0_multiply_21 : decode cX0_multiply 21 = .ok (.aload_n 0, 1) := by decide +kernel
theorem dX0_multiply_22 : decode cX0_multiply 22 = .ok (.getfield 36, 3) := by decide +kernel
theorem dX0_multiply_25 : decode cX0_multiply 25 = .ok (.aload_n 0, 1) := by decide +kernel
theorem dX0_multiply_26 : decode cX0_multiply 26 = .ok (.getfield 39, 3) := by decide +kernel
theorem dX0_multiply_29 : decode cX0_multiply 29 = .ok (.iload_n 1, 1) := by decide +kernel
theorem dX0_multiply_30 : decode cX0_multiply 30 = .ok (.iload_n 2, 1) := by decide +kernel
theorem dX0_multiply_31 : decode cX0_multiply 31 = .ok (.invokevirtual 53, 3) := by decide +kernel
theorem dX0_multiply_34 : decode cX0_multiply 34 = .ok (.aload_n 0, 1) := by decide +kernel
theorem dX0_multiply_35 : decode cX0_multiply 35 = .ok (.getfield 14, 3) := by decide +kernel
theorem dX0_multiply_38 : decode cX0_multiply 38 = .ok (.getfield 57, 3) := by decide +kernel
theorem dX0_multiply_41 : decode cX0_multiply 41 = .ok (.lstore_n 3, 1) := by decide +kernel
theorem dX0_multiply_42 : decode cX0_multiply 42 = .ok (.aload_n 0, 1) := by decide +kernel
theorem dX0_multiply_43 : decode cX0_multiply 43 = .ok (.getfield 22, 3) := by decide +kernel
theorem dX0_multiply_46 : decode cX0_multiply 46 = .ok (.getfield 57, 3) := by decide +kernel
theorem dX0_multiply_49 : decode cX0_multiply 49 = .ok (.lstore 5, 2) := by decide +kernel
theorem dX0_multiply_51 : decode cX0_multiply 51 = .ok (.aload_n 0, 1) := by decide +kernel
theorem dX0_multiply_52 : decode cX0_multiply 52 = .ok (.getfield 22, 3) := by decide +kernel
theorem dX0_multiply_55 : decode cX0_multiply 55 = .ok (.lload_n 3, 1) := by decide +kernel
theorem dX0_multiply_56 : decode cX0_multiply 56 = .ok (.lload 5, 2) := by decide +kernel
theorem dX0_multiply_58 : decode cX0_multiply 58 = .ok (.lrem, 1) := by decide +kernel
theorem dX0_multiply_59 : decode cX0_multiply 59 = .ok (.invokevirtual 61, 3) := by decide +kernel
theorem dX0_multiply_62 : decode cX0_multiply 62 = .ok (.lstore 7, 2) := by decide +kernel
theorem dX0_multiply_64 : decode cX0_multiply 64 = .ok (.iconst 0, 1) := by decide +kernel
theorem dX0_multiply_65 : decode cX0_multiply 65 = .ok (.istore 9, 2) := by decide +kernel
theorem dX0_multiply_67 : decode cX0_multiply 67 = .ok (.iload 9, 2) := by decide +kernel
theorem dX0_multiply_69 : decode cX0_multiply 69 = .ok (.sipush 512, 3) := by decide +kernel
theorem dX0_multiply_72 : decode cX0_multiply 72 = .ok (.if_icmp .ge 108, 3) := by decide +kernel
theorem dX0_multiply_75 : decode cX0_multiply 75 = .ok (.iload 9, 2) := by decide +kernel
theorem dX0_multiply_77 : decode cX0_multiply 77 = .ok (.iload_n 1, 1) := by decide +kernel
theorem dX0_multiply_78 : decode cX0_multiply 78 = .ok (.if_icmp .lt 14, 3) := by decide +kernel
theorem dX0_multiply_81 : decode cX0_multiply 81 = .ok (.aload_n 0, 1) := by decide +kernel
theorem dX0_multiply_82 : decode cX0_multiply 82 = .ok (.getfield 32, 3) := by decide +kernel
theorem dX0_multiply_85 : decode cX0_multiply 85 = .ok (.iload 9, 2) := by decide +kernel
theorem dX0_multiply_87 : decode cX0_multiply 87 = .ok (.lconst 0, 1) := by decide +kernel
theorem dX0_multiply_88 : decode cX0_multiply 88 = .ok (.lastore, 1) := by decide +kernel
theorem dX0_multiply_89 : decode cX0_multiply 89 = .ok (.goto 85, 3) := by decide +kernel
theorem dX0_multiply_92 : decode cX0_multiply 92 = .ok (.aload_n 0, 1) := by decide +kernel
theorem dX0_multiply_93 : decode cX0_multiply 93 = .ok (.getfield 14, 3) := by decide +kernel
theorem dX0_multiply_96 : decode cX0_multiply 96 = .ok (.iload 9, 2) := by decide +kernel
theorem dX0_multiply_98 : decode cX0_multiply 98 = .ok (.invokevirtual 65, 3) := by decide +kernel
theorem dX0_multiply_101 : decode cX0_multiply 101 = .ok (.lstore 10, 2) := by decide +kernel
theorem dX0_multiply_103 : decode cX0_multiply 103 = .ok (.aload_n 0, 1) := by decide +kernel
theorem dX0_multiply_104 : decode cX0_multiply 104 = .ok (.getfield 22, 3) := by decide +kernel
theorem dX0_multiply_107 : decode cX0_multiply 107 = .ok (.iload 9, 2) := by decide +kernel
theorem dX0_multiply_109 : decode cX0_multiply 109 = .ok (.invokevirtual 65, 3) := by decide +kernel
theorem dX0_multiply_112 : decode cX0_multiply 112 = .ok (.lload 10, 2) := by decide +kernel
theorem dX0_multiply_114 : decode cX0_multiply 114 = .ok (.lload 5, 2) := by decide +kernel
theorem dX0_multiply_116 : decode cX0_multiply 116 = .ok (.lrem, 1) := by decide +kernel
theorem dX0_multiply_117 : decode cX0_multiply 117 = .ok (.lsub, 1) := by decide +kernel
theorem dX0_multiply_118 : decode cX0_multiply 118 = .ok (.lload 5, 2) := by decide +kernel
theorem dX0_multiply_120 : decode cX0_multiply 120 = .ok (.ladd, 1) := by decide +kernel
theorem dX0_multiply_121 : decode cX0_multiply 121 = .ok (.lload 5, 2) := by decide +kernel
theorem dX0_multiply_123 : decode cX0_multiply 123 = .ok (.lrem, 1) := by decide +kernel
theorem dX0_multiply_124 : decode cX0_multiply 124 = .ok (.lload 7, 2) := by decide +kernel
theorem dX0_multiply_126 : decode cX0_multiply 126 = .ok (.lmul, 1) := by decide +kernel
theorem dX0_multiply_127 : decode cX0_multiply 127 = .ok (.lload 5, 2) := by decide +kernel
theorem dX0_multiply_129 : decode cX0_multiply 129 = .ok (.lrem, 1) := by decide +kernel
theorem dX0_multiply_130 : decode cX0_multiply 130 = .ok (.lstore 12, 2) := by decide +kernel
theorem dX0_multiply_132 : decode cX0_multiply 132 = .ok (.lload 10, 2) := by decide +kernel
theorem dX0_multiply_134 : decode cX0_multiply 134 = .ok (.lload_n 3, 1) := by decide +kernel
theorem dX0_multiply_135 : decode cX0_multiply 135 = .ok (.lload 12, 2) := by decide +kernel
theorem dX0_multiply_137 : decode cX0_multiply 137 = .ok (.lmul, 1) := by decide +kernel
theorem dX0_multiply_138 : decode cX0_multiply 138 = .ok (.ladd, 1) := by decide +kernel
theorem dX0_multiply_139 : decode cX0_multiply 139 = .ok (.lstore 14, 2) := by decide +kernel
theorem dX0_multiply_141 : decode cX0_multiply 141 = .ok (.aload_n 0, 1) := by decide +kernel
theorem dX0_multiply_142 : decode cX0_multiply 142 = .ok (.getfield 32, 3) := by decide +kernel
theorem dX0_multiply_145 : decode cX0_multiply 145 = .ok (.iload 9, 2) := by decide +kernel
theorem dX0_multiply_147 : decode cX0_multiply 147 = .ok (.lload 14, 2) := by decide +kernel
theorem dX0_multiply_149 : decode cX0_multiply 149 = .ok (.lload_n 3, 1) := by decide +kernel
theorem dX0_multiply_150 : decode cX0_multiply 150 = .ok (.lload 5, 2) := by decide +kernel
theorem dX0_multiply_152 : decode cX0_multiply 152 = .ok (.lmul, 1) := by decide +kernel
theorem dX0_multiply_153 : decode cX0_multiply 153 = .ok (.ldc2_w 69, 3) := by decide +kernel
theorem dX0_multiply_156 : decode cX0_multiply 156 = .ok (.ldiv, 1) := by decide +kernel
theorem dX0_multiply_157 : decode cX0_multiply 157 = .ok (.lcmp, 1) := by decide +kernel
theorem dX0_multiply_158 : decode cX0_multiply 158 = .ok (.ifCond .le 13, 3) := by decide +kernel
theorem dX0_multiply_161 : decode cX0_multiply 161 = .ok (.lload 14, 2) := by decide +kernel
theorem dX0_multiply_163 : decode cX0_multiply 163 = .ok (.lload_n 3, 1) := by decide +kernel
theorem dX0_multiply_164 : decode cX0_multiply 164 = .ok (.lload 5, 2) := by decide +kernel
theorem dX0_multiply_166 : decode cX0_multiply 166 = .ok (.lmul, 1) := by decide +kernel
theorem dX0_multiply_167 : decode cX0_multiply 167 = .ok (.lsub, 1) := by decide +kernel
theorem dX0_multiply_168 : decode cX0_multiply 168 = .ok (.goto 5, 3) := by decide +kernel
theorem dX0_multiply_171 : decode cX0_multiply 171 = .ok (.lload 14, 2) := by decide +kernel
theorem dX0_multiply_173 : decode cX0_multiply 173 = .ok (.lastore, 1) := by decide +kernel
theorem dX0_multiply_174 : decode cX0_multiply 174 = .ok (.iinc 9 1, 3) := by decide +kernel
theorem dX0_multiply_177 : decode cX0_multiply 177 = .ok (.goto (-110), 3) := by decide +kernel
theorem dX0_multiply_180 : decode cX0_multiply 180 = .ok (.return_, 1) := by decide +kernel
abbrev cX0_circle : ByteArray := prog_1_method_10_code
def yX0_circle : MethodName := ⟨RX0, "circle", "(I)V"⟩
theorem dX0_circle_0 : decode cX0_circle 0 = .ok (.aload_n 0, 1) := by decide +kernel
theorem dX0_circle_1 : decode cX0_circle 1 = .ok (.iconst 1, 1) := by decide +kernel
theorem dX0_circle_2 : decode cX0_circle 2 = .ok (.iload_n 1, 1) := by decide +kernel
theorem dX0_circle_3 : decode cX0_circle 3 = .ok (.bipush 7, 2) := by decide +kernel
theorem dX0_circle_5 : decode cX0_circle 5 = .ok (.iand, 1) := by decide +kernel
theorem dX0_circle_6 : decode cX0_circle 6 = .ok (.ishl, 1) := by decide +kernel
theorem dX0_circle_7 : decode cX0_circle 7 = .ok (.iconst 0, 1) := by decide +kernel
theorem dX0_circle_8 : decode cX0_circle 8 = .ok (.invokevirtual 79, 3) := by decide +kernel
theorem dX0_circle_11 : decode cX0_circle 11 = .ok (.return_, 1) := by decide +kernel
abbrev cX0_fold : ByteArray := prog_1_method_9_code
def yX0_fold : MethodName := ⟨RX0, "fold", "(IZ)V"⟩
theorem dX0_fold_0 : decode cX0_fold 0 = .ok (.iconst 0, 1) := by decide +kernel
theorem dX0_fold_1 : decode cX0_fold 1 = .ok (.istore_n 3, 1) := by decide +kernel
theorem dX0_fold_2 : decode cX0_fold 2 = .ok (.iload_n 3, 1) := by decide +kernel
theorem dX0_fold_3 : decode cX0_fold 3 = .ok (.sipush 512, 3) := by decide +kernel
theorem dX0_fold_6 : decode cX0_fold 6 = .ok (.if_icmp .ge 23, 3) := by decide +kernel
theorem dX0_fold_9 : decode cX0_fold 9 = .ok (.aload_n 0, 1) := by decide +kernel
theorem dX0_fold_10 : decode cX0_fold 10 = .ok (.getfield 36, 3) := by decide +kernel
theorem dX0_fold_13 : decode cX0_fold 13 = .ok (.iload_n 3, 1) := by decide +kernel
theorem dX0_fold_14 : decode cX0_fold 14 = .ok (.lconst 0, 1) := by decide +kernel
theorem dX0_fold_15 : decode cX0_fold 15 = .ok (.lastore, 1) := by decide +kernel
theorem dX0_fold_16 : decode cX0_fold 16 = .ok (.aload_n 0, 1) := by decide +kernel
theorem dX0_fold_17 : decode cX0_fold 17 = .ok (.getfield 39, 3) := by decide +kernel
theorem dX0_fold_20 : decode cX0_fold 20 = .ok (.iload_n 3, 1) := by decide +kernel
theorem dX0_fold_21 : decode cX0_fold 21 = .ok (.lconst 0, 1) := by decide +kernel
theorem dX0_fold_22 : decode cX0_fold 22 = .ok (.lastore, 1) := by decide +kernel
theorem dX0_fold_23 : decode cX0_fold 23 = .ok (.iinc 3 1, 3) := by decide +kernel
theorem dX0_fold_26 : decode cX0_fold 26 = .ok (.goto (-24), 3) := by decide +kernel
theorem dX0_fold_29 : decode cX0_fold 29 = .ok (.iconst 0, 1) := by decide +kernel
theorem dX0_fold_30 : decode cX0_fold 30 = .ok (.istore_n 3, 1) := by decide +kernel
theorem dX0_fold_31 : decode cX0_fold 31 = .ok (.iload_n 3, 1) := by decide +kernel
theorem dX0_fold_32 : decode cX0_fold 32 = .ok (.aload_n 0, 1) := by decide +kernel
theorem dX0_fold_33 : decode cX0_fold 33 = .ok (.getfield 42, 3) := by decide +kernel
theorem dX0_fold_36 : decode cX0_fold 36 = .ok (.if_icmp .ge 53, 3) := by decide +kernel
theorem dX0_fold_39 : decode cX0_fold 39 = .ok (.aload_n 0, 1) := by decide +kernel
theorem dX0_fold_40 : decode cX0_fold 40 = .ok (.getfield 36, 3) := by decide +kernel
theorem dX0_fold_43 : decode cX0_fold 43 = .ok (.iload_n 3, 1) := by decide +kernel
theorem dX0_fold_44 : decode cX0_fold 44 = .ok (.iload_n 1, 1) := by decide +kernel
theorem dX0_fold_45 : decode cX0_fold 45 = .ok (.iconst 1, 1) := by decide +kernel
theorem dX0_fold_46 : decode cX0_fold 46 = .ok (.isub, 1) := by decide +kernel
theorem dX0_fold_47 : decode cX0_fold 47 = .ok (.iand, 1) := by decide +kernel
theorem dX0_fold_48 : decode cX0_fold 48 = .ok (.dup2, 1) := by decide +kernel
theorem dX0_fold_49 : decode cX0_fold 49 = .ok (.laload, 1) := by decide +kernel
theorem dX0_fold_50 : decode cX0_fold 50 = .ok (.iload_n 2, 1) := by decide +kernel
theorem dX0_fold_51 : decode cX0_fold 51 = .ok (.ifCond .eq 23, 3) := by decide +kernel
theorem dX0_fold_54 : decode cX0_fold 54 = .ok (.iload_n 3, 1) := by decide +kernel
theorem dX0_fold_55 : decode cX0_fold 55 = .ok (.iload_n 1, 1) := by decide +kernel
theorem dX0_fold_56 : decode cX0_fold 56 = .ok (.idiv, 1) := by decide +kernel
theorem dX0_fold_57 : decode cX0_fold 57 = .ok (.iconst 1, 1) := by decide +kernel
theorem dX0_fold_58 : decode cX0_fold 58 = .ok (.iand, 1) := by decide +kernel
theorem dX0_fold_59 : decode cX0_fold 59 = .ok (.iconst 1, 1) := by decide +kernel
theorem dX0_fold_60 : decode cX0_fold 60 = .ok (.if_icmp .ne 14, 3) := by decide +kernel
theorem dX0_fold_63 : decode cX0_fold 63 = .ok (.aload_n 0, 1) := by decide +kernel
theorem dX0_fold_64 : decode cX0_fold 64 = .ok (.getfield 25, 3) := by decide +kernel
theorem dX0_fold_67 : decode cX0_fold 67 = .ok (.iload_n 3, 1) := by decide +kernel
theorem dX0_fold_68 : decode cX0_fold 68 = .ok (.iaload, 1) := by decide +kernel
theorem dX0_fold_69 : decode cX0_fold 69 = .ok (.ineg, 1) := by decide +kernel
theorem dX0_fold_70 : decode cX0_fold 70 = .ok (.i2l, 1) := by decide +kernel
theorem dX0_fold_71 : decode cX0_fold 71 = .ok (.goto 10, 3) := by decide +kernel
theorem dX0_fold_74 : decode cX0_fold 74 = .ok (.aload_n 0, 1) := by decide +kernel
theorem dX0_fold_75 : decode cX0_fold 75 = .ok (.getfield 25, 3) := by decide +kernel
theorem dX0_fold_78 : decode cX0_fold 78 = .ok (.iload_n 3, 1) := by decide +kernel
theorem dX0_fold_79 : decode cX0_fold 79 = .ok (.iaload, 1) := by decide +kernel
theorem dX0_fold_80 : decode cX0_fold 80 = .ok (.i2l, 1) := by decide +kernel
theorem dX0_fold_81 : decode cX0_fold 81 = .ok (.ladd, 1) := by decide +kernel
theorem dX0_fold_82 : decode cX0_fold 82 = .ok (.lastore, 1) := by decide +kernel
theorem dX0_fold_83 : decode cX0_fold 83 = .ok (.iinc 3 1, 3) := by decide +kernel
theorem dX0_fold_86 : decode cX0_fold 86 = .ok (.goto (-55), 3) := by decide +kernel
theorem dX0_fold_89 : decode cX0_fold 89 = .ok (.iconst 0, 1) := by decide +kernel
theorem dX0_fold_90 : decode cX0_fold 90 = .ok (.istore_n 3, 1) := by decide +kernel
theorem dX0_fold_91 : decode cX0_fold 91 = .ok (.iload_n 3, 1) := by decide +kernel
theorem dX0_fold_92 : decode cX0_fold 92 = .ok (.aload_n 0, 1) := by decide +kernel
theorem dX0_fold_93 : decode cX0_fold 93 = .ok (.getfield 50, 3) := by decide +kernel
theorem dX0_fold_96 : decode cX0_fold 96 = .ok (.if_icmp .ge 53, 3) := by decide +kernel
theorem dX0_fold_99 : decode cX0_fold 99 = .ok (.aload_n 0, 1) := by decide +kernel
theorem dX0_fold_100 : decode cX0_fold 100 = .ok (.getfield 39, 3) := by decide +kernel
theorem dX0_fold_103 : decode cX0_fold 103 = .ok (.iload_n 3, 1) := by decide +kernel
theorem dX0_fold_104 : decode cX0_fold 104 = .ok (.iload_n 1, 1) := by decide +kernel
theorem dX0_fold_105 : decode cX0_fold 105 = .ok (.iconst 1, 1) := by decide +kernel
theorem dX0_fold_106 : decode cX0_fold 106 = .ok (.isub, 1) := by decide +kernel
theorem dX0_fold_107 : decode cX0_fold 107 = .ok (.iand, 1) := by decide +kernel
theorem dX0_fold_108 : decode cX0_fold 108 = .ok (.dup2, 1) := by decide +kernel
theorem dX0_fold_109 : decode cX0_fold 109 = .ok (.laload, 1) := by decide +kernel
theorem dX0_fold_110 : decode cX0_fold 110 = .ok (.iload_n 2, 1) := by decide +kernel
theorem dX0_fold_111 : decode cX0_fold 111 = .ok (.ifCond .eq 23, 3) := by decide +kernel
theorem dX0_fold_114 : decode cX0_fold 114 = .ok (.iload_n 3, 1) := by decide +kernel
theorem dX0_fold_115 : decode cX0_fold 115 = .ok (.iload_n 1, 1) := by decide +kernel
theorem dX0_fold_116 : decode cX0_fold 116 = .ok (.idiv, 1) := by decide +kernel
theorem dX0_fold_117 : decode cX0_fold 117 = .ok (.iconst 1, 1) := by decide +kernel
theorem dX0_fold_118 : decode cX0_fold 118 = .ok (.iand, 1) := by decide +kernel
theorem dX0_fold_119 : decode cX0_fold 119 = .ok (.iconst 1, 1) := by decide +kernel
theorem dX0_fold_120 : decode cX0_fold 120 = .ok (.if_icmp .ne 14, 3) := by decide +kernel
theorem dX0_fold_123 : decode cX0_fold 123 = .ok (.aload_n 0, 1) := by decide +kernel
theorem dX0_fold_124 : decode cX0_fold 124 = .ok (.getfield 29, 3) := by decide +kernel
theorem dX0_fold_127 : decode cX0_fold 127 = .ok (.iload_n 3, 1) := by decide +kernel
theorem dX0_fold_128 : decode cX0_fold 128 = .ok (.iaload, 1) := by decide +kernel
theorem dX0_fold_129 : decode cX0_fold 129 = .ok (.ineg, 1) := by decide +kernel
theorem dX0_fold_130 : decode cX0_fold 130 = .ok (.i2l, 1) := by decide +kernel
theorem dX0_fold_131 : decode cX0_fold 131 = .ok (.goto 10, 3) := by decide +kernel
theorem dX0_fold_134 : decode cX0_fold 134 = .ok (.aload_n 0, 1) := by decide +kernel
theorem dX0_fold_135 : decode cX0_fold 135 = .ok (.getfield 29, 3) := by decide +kernel
theorem dX0_fold_138 : decode cX0_fold 138 = .ok (.iload_n 3, 1) := by decide +kernel
theorem dX0_fold_139 : decode cX0_fold 139 = .ok (.iaload, 1) := by decide +kernel
theorem dX0_fold_140 : decode cX0_fold 140 = .ok (.i2l, 1) := by decide +kernel
theorem dX0_fold_141 : decode cX0_fold 141 = .ok (.ladd, 1) := by decide +kernel
theorem dX0_fold_142 : decode cX0_fold 142 = .ok (.lastore, 1) := by decide +kernel
theorem dX0_fold_143 : decode cX0_fold 143 = .ok (.iinc 3 1, 3) := by decide +kernel
theorem dX0_fold_146 : decode cX0_fold 146 = .ok (.goto (-55), 3) := by decide +kernel
theorem dX0_fold_149 : decode cX0_fold 149 = .ok (.aload_n 0, 1) := by decide +kernel
theorem dX0_fold_150 : decode cX0_fold 150 = .ok (.iload_n 1, 1) := by decide +kernel
theorem dX0_fold_151 : decode cX0_fold 151 = .ok (.iload_n 2, 1) := by decide +kernel
theorem dX0_fold_152 : decode cX0_fold 152 = .ok (.invokevirtual 75, 3) := by decide +kernel
theorem dX0_fold_155 : decode cX0_fold 155 = .ok (.return_, 1) := by decide +kernel
abbrev cX0_twisted : ByteArray := prog_1_method_11_code
def yX0_twisted : MethodName := ⟨RX0, "twisted", "(I)V"⟩
theorem dX0_twisted_0 : decode cX0_twisted 0 = .ok (.aload_n 0, 1) := by decide +kernel
theorem dX0_twisted_1 : decode cX0_twisted 1 = .ok (.iconst 1, 1) := by decide +kernel
theorem dX0_twisted_2 : decode cX0_twisted 2 = .ok (.iload_n 1, 1) := by decide +kernel
theorem dX0_twisted_3 : decode cX0_twisted 3 = .ok (.bipush 7, 2) := by decide +kernel
theorem dX0_twisted_5 : decode cX0_twisted 5 = .ok (.iand, 1) := by decide +kernel
theorem dX0_twisted_6 : decode cX0_twisted 6 = .ok (.ishl, 1) := by decide +kernel
theorem dX0_twisted_7 : decode cX0_twisted 7 = .ok (.iconst 1, 1) := by decide +kernel
theorem dX0_twisted_8 : decode cX0_twisted 8 = .ok (.invokevirtual 79, 3) := by decide +kernel
theorem dX0_twisted_11 : decode cX0_twisted 11 = .ok (.return_, 1) := by decide +kernel
abbrev cX0_likeness : ByteArray := prog_1_method_12_code
def yX0_likeness : MethodName := ⟨RX0, "likeness", "()V"⟩
theorem dX0_likeness_0 : decode cX0_likeness 0 = .ok (.aload_n 0, 1) := by decide +kernel
theorem dX0_likeness_1 : decode cX0_likeness 1 = .ok (.iconst 1, 1) := by decide +kernel
theorem dX0_likeness_2 : decode cX0_likeness 2 = .ok (.invokevirtual 71, 3) := by decide +kernel
theorem dX0_likeness_5 : decode cX0_likeness 5 = .ok (.aload_n 0, 1) := by decide +kernel
theorem dX0_likeness_6 : decode cX0_likeness 6 = .ok (.sipush 512, 3) := by decide +kernel
theorem dX0_likeness_9 : decode cX0_likeness 9 = .ok (.iconst 0, 1) := by decide +kernel
theorem dX0_likeness_10 : decode cX0_likeness 10 = .ok (.invokevirtual 75, 3) := by decide +kernel
theorem dX0_likeness_13 : decode cX0_likeness 13 = .ok (.return_, 1) := by decide +kernel
abbrev cX0_at : ByteArray := prog_1_method_13_code
def yX0_at : MethodName := ⟨RX0, "at", "(I)J"⟩
theorem dX0_at_0 : decode cX0_at 0 = .ok (.aload_n 0, 1) := by decide +kernel
theorem dX0_at_1 : decode cX0_at 1 = .ok (.getfield 32, 3) := by decide +kernel
theorem dX0_at_4 : decode cX0_at 4 = .ok (.iload_n 1, 1) := by decide +kernel
theorem dX0_at_5 : decode cX0_at 5 = .ok (.sipush 511, 3) := by decide +kernel
theorem dX0_at_8 : decode cX0_at 8 = .ok (.iand, 1) := by decide +kernel
theorem dX0_at_9 : decode cX0_at 9 = .ok (.laload, 1) := by decide +kernel
theorem dX0_at_10 : decode cX0_at 10 = .ok (.lreturn, 1) := by decide +kernel
theorem q8 : (Jvm.Cond.initialized "ProductDesk") ∈ lw_all := lw_g (lw_at lw_m0 1 rfl) rfl
theorem q12 : (Jvm.Cond.instantiable "ProductDesk" (9 : Nat)) ∈ lw_all := lw_g (lw_at lw_m0 5 rfl) rfl
theorem q14 : (Jvm.Cond.instanceMethod ({ cls := "ProductDesk", name := "<init>", desc := "()V" } : Jvm.MethodName)) ∈ lw_all := lw_g (lw_at lw_m0 7 rfl) rfl
theorem q15 : (Jvm.Cond.code ({ cls := "ProductDesk", name := "<init>", desc := "()V" } : Jvm.MethodName) prog_1_method_1_code (1 : Nat) (Option.none : Option Jvm.ClassFile.FieldType)) ∈ lw_all := lw_g (lw_at lw_m0 8 rfl) rfl
theorem q16 : (Jvm.Cond.methodLink "ProductDesk" (1 : Nat) ({ cls := "java/lang/Object", name := "<init>", desc := "()V" } : Jvm.MethodName)) ∈ lw_all := lw_g (lw_at lw_m0 9 rfl) rfl
theorem q19 : (Jvm.Cond.classLink "ProductDesk" (7 : Nat) "ProductDesk$Ring") ∈ lw_all := lw_g (lw_at lw_m0 12 rfl) rfl
theorem q21 : (Jvm.Cond.constantLong "ProductDesk" (9 : Nat) (998244353 : Int64)) ∈ lw_all := lw_g (lw_at lw_m0 14 rfl) rfl
theorem q22 : (Jvm.Cond.methodLink "ProductDesk" (11 : Nat) ({ cls := "ProductDesk$Ring", name := "<init>", desc := "(J)V" } : Jvm.MethodName)) ∈ lw_all := lw_g (lw_at lw_m0 15 rfl) rfl
theorem q27 : (Jvm.Cond.fieldLink "ProductDesk" (57 : Nat) "ProductDesk$Ring" "p" "J") ∈ lw_all := lw_g (lw_at lw_m0 20 rfl) rfl
theorem q38 : (Jvm.Cond.constantLong "ProductDesk" (20 : Nat) (1004535809 : Int64)) ∈ lw_all := lw_g (lw_at lw_m0 31 rfl) rfl
theorem q39 : (Jvm.Cond.fieldLink "ProductDesk" (14 : Nat) "ProductDesk" "first" "LProductDesk$Ring;") ∈ lw_all := lw_g (lw_at lw_m0 32 rfl) rfl
theorem q40 : (Jvm.Cond.fieldLink "ProductDesk" (22 : Nat) "ProductDesk" "second" "LProductDesk$Ring;") ∈ lw_all := lw_g (lw_at lw_m0 33 rfl) rfl
theorem q41 : (Jvm.Cond.fieldLink "ProductDesk" (25 : Nat) "ProductDesk" "left" "[I") ∈ lw_all := lw_g (lw_at lw_m0 34 rfl) rfl
theorem q42 : (Jvm.Cond.fieldLink "ProductDesk" (29 : Nat) "ProductDesk" "right" "[I") ∈ lw_all := lw_g (lw_at lw_m0 35 rfl) rfl
theorem q43 : (Jvm.Cond.fieldLink "ProductDesk" (32 : Nat) "ProductDesk" "z" "[J") ∈ lw_all := lw_g (lw_at lw_m0 36 rfl) rfl
theorem q44 : (Jvm.Cond.fieldLink "ProductDesk" (36 : Nat) "ProductDesk" "x" "[J") ∈ lw_all := lw_g (lw_at lw_m0 37 rfl) rfl
theorem q45 : (Jvm.Cond.fieldLink "ProductDesk" (39 : Nat) "ProductDesk" "y" "[J") ∈ lw_all := lw_g (lw_at lw_m0 38 rfl) rfl
theorem q46 : (Jvm.Cond.fieldLink "ProductDesk" (42 : Nat) "ProductDesk" "lefts" "I") ∈ lw_all := lw_g (lw_at lw_m0 39 rfl) rfl
theorem q47 : (Jvm.Cond.fieldLink "ProductDesk" (50 : Nat) "ProductDesk" "rights" "I") ∈ lw_all := lw_g (lw_at lw_m0 40 rfl) rfl
theorem q48 : (Jvm.Cond.laysFinal "ProductDesk" "ProductDesk" "first" "LProductDesk$Ring;") ∈ lw_all := lw_g (lw_at lw_m0 41 rfl) rfl
theorem q49 : (Jvm.Cond.soleField "ProductDesk" "first") ∈ lw_all := lw_g (lw_at lw_m0 42 rfl) rfl
theorem q50 : (Jvm.Cond.laysFinal "ProductDesk" "ProductDesk" "second" "LProductDesk$Ring;") ∈ lw_all := lw_g (lw_at lw_m0 43 rfl) rfl
theorem q51 : (Jvm.Cond.soleField "ProductDesk" "second") ∈ lw_all := lw_g (lw_at lw_m0 44 rfl) rfl
theorem q52 : (Jvm.Cond.laysFinal "ProductDesk" "ProductDesk" "left" "[I") ∈ lw_all := lw_g (lw_at lw_m0 45 rfl) rfl
theorem q53 : (Jvm.Cond.soleField "ProductDesk" "left") ∈ lw_all := lw_g (lw_at lw_m0 46 rfl) rfl
theorem q54 : (Jvm.Cond.laysFinal "ProductDesk" "ProductDesk" "right" "[I") ∈ lw_all := lw_g (lw_at lw_m0 47 rfl) rfl
theorem q55 : (Jvm.Cond.soleField "ProductDesk" "right") ∈ lw_all := lw_g (lw_at lw_m0 48 rfl) rfl
theorem q56 : (Jvm.Cond.laysFinal "ProductDesk" "ProductDesk" "z" "[J") ∈ lw_all := lw_g (lw_at lw_m0 49 rfl) rfl
theorem q57 : (Jvm.Cond.soleField "ProductDesk" "z") ∈ lw_all := lw_g (lw_at lw_m0 50 rfl) rfl
theorem q58 : (Jvm.Cond.laysFinal "ProductDesk" "ProductDesk" "x" "[J") ∈ lw_all := lw_g (lw_at lw_m0 51 rfl) rfl
theorem q59 : (Jvm.Cond.soleField "ProductDesk" "x") ∈ lw_all := lw_g (lw_at lw_m0 52 rfl) rfl
theorem q60 : (Jvm.Cond.laysFinal "ProductDesk" "ProductDesk" "y" "[J") ∈ lw_all := lw_g (lw_at lw_m0 53 rfl) rfl
theorem q61 : (Jvm.Cond.soleField "ProductDesk" "y") ∈ lw_all := lw_g (lw_at lw_m0 54 rfl) rfl
theorem q62 : (Jvm.Cond.lays "ProductDesk" "ProductDesk" "lefts" "I") ∈ lw_all := lw_g (lw_at lw_m0 55 rfl) rfl
theorem q63 : (Jvm.Cond.soleField "ProductDesk" "lefts") ∈ lw_all := lw_g (lw_at lw_m0 56 rfl) rfl
theorem q64 : (Jvm.Cond.lays "ProductDesk" "ProductDesk" "rights" "I") ∈ lw_all := lw_g (lw_at lw_m0 57 rfl) rfl
theorem q65 : (Jvm.Cond.soleField "ProductDesk" "rights") ∈ lw_all := lw_g (lw_at lw_m0 58 rfl) rfl
theorem q66 : (Jvm.Cond.superclass "ProductDesk" "java/lang/Object") ∈ lw_all := lw_g (lw_at lw_m0 59 rfl) rfl
theorem q69 : (Jvm.Cond.instanceMethod ({ cls := "ProductDesk", name := "left", desc := "(IIII)Z" } : Jvm.MethodName)) ∈ lw_all := lw_g (lw_at lw_m0 62 rfl) rfl
theorem q70 : (Jvm.Cond.selects "ProductDesk" ({ cls := "ProductDesk", name := "left", desc := "(IIII)Z" } : Jvm.MethodName) ({ cls := "ProductDesk", name := "left", desc := "(IIII)Z" } : Jvm.MethodName)) ∈ lw_all := lw_g (lw_at lw_m0 63 rfl) rfl
theorem q71 : (Jvm.Cond.code ({ cls := "ProductDesk", name := "left", desc := "(IIII)Z" } : Jvm.MethodName) prog_1_method_3_code (5 : Nat) (Option.some Jvm.ClassFile.FieldType.boolean)) ∈ lw_all := lw_g (lw_at lw_m0 64 rfl) rfl
theorem q72 : (Jvm.Cond.methodLink "ProductDesk" (46 : Nat) ({ cls := "ProductDesk", name := "number", desc := "(I)I" } : Jvm.MethodName)) ∈ lw_all := lw_g (lw_at lw_m0 65 rfl) rfl
theorem q73 : (Jvm.Cond.static ({ cls := "ProductDesk", name := "number", desc := "(I)I" } : Jvm.MethodName)) ∈ lw_all := lw_g (lw_at lw_m0 66 rfl) rfl
theorem q74 : (Jvm.Cond.code ({ cls := "ProductDesk", name := "number", desc := "(I)I" } : Jvm.MethodName) prog_1_method_2_code (1 : Nat) (Option.some Jvm.ClassFile.FieldType.int)) ∈ lw_all := lw_g (lw_at lw_m0 67 rfl) rfl
theorem q76 : (Jvm.Cond.instanceMethod ({ cls := "ProductDesk", name := "right", desc := "(IIII)Z" } : Jvm.MethodName)) ∈ lw_all := lw_g (lw_at lw_m0 69 rfl) rfl
theorem q77 : (Jvm.Cond.selects "ProductDesk" ({ cls := "ProductDesk", name := "right", desc := "(IIII)Z" } : Jvm.MethodName) ({ cls := "ProductDesk", name := "right", desc := "(IIII)Z" } : Jvm.MethodName)) ∈ lw_all := lw_g (lw_at lw_m0 70 rfl) rfl
theorem q78 : (Jvm.Cond.code ({ cls := "ProductDesk", name := "right", desc := "(IIII)Z" } : Jvm.MethodName) prog_1_method_4_code (5 : Nat) (Option.some Jvm.ClassFile.FieldType.boolean)) ∈ lw_all := lw_g (lw_at lw_m0 71 rfl) rfl
theorem q80 : (Jvm.Cond.instanceMethod ({ cls := "ProductDesk", name := "wipe", desc := "(I)V" } : Jvm.MethodName)) ∈ lw_all := lw_g (lw_at lw_m0 73 rfl) rfl
theorem q81 : (Jvm.Cond.selects "ProductDesk" ({ cls := "ProductDesk", name := "wipe", desc := "(I)V" } : Jvm.MethodName) ({ cls := "ProductDesk", name := "wipe", desc := "(I)V" } : Jvm.MethodName)) ∈ lw_all := lw_g (lw_at lw_m0 74 rfl) rfl
theorem q82 : (Jvm.Cond.code ({ cls := "ProductDesk", name := "wipe", desc := "(I)V" } : Jvm.MethodName) prog_1_method_5_code (2 : Nat) (Option.none : Option Jvm.ClassFile.FieldType)) ∈ lw_all := lw_g (lw_at lw_m0 75 rfl) rfl
theorem q84 : (Jvm.Cond.instanceMethod ({ cls := "ProductDesk", name := "product", desc := "()V" } : Jvm.MethodName)) ∈ lw_all := lw_g (lw_at lw_m0 77 rfl) rfl
theorem q85 : (Jvm.Cond.selects "ProductDesk" ({ cls := "ProductDesk", name := "product", desc := "()V" } : Jvm.MethodName) ({ cls := "ProductDesk", name := "product", desc := "()V" } : Jvm.MethodName)) ∈ lw_all := lw_g (lw_at lw_m0 78 rfl) rfl
theorem q86 : (Jvm.Cond.code ({ cls := "ProductDesk", name := "product", desc := "()V" } : Jvm.MethodName) prog_1_method_8_code (1 : Nat) (Option.none : Option Jvm.ClassFile.FieldType)) ∈ lw_all := lw_g (lw_at lw_m0 79 rfl) rfl
theorem q87 : (Jvm.Cond.methodLink "ProductDesk" (71 : Nat) ({ cls := "ProductDesk", name := "lay", desc := "(Z)V" } : Jvm.MethodName)) ∈ lw_all := lw_g (lw_at lw_m0 80 rfl) rfl
theorem q88 : (Jvm.Cond.privateMethod ({ cls := "ProductDesk", name := "lay", desc := "(Z)V" } : Jvm.MethodName)) ∈ lw_tbl := lw_at lw_m0 81 rfl
theorem q89 : (Jvm.Cond.instanceMethod ({ cls := "ProductDesk", name := "lay", desc := "(Z)V" } : Jvm.MethodName)) ∈ lw_all := lw_g (lw_at lw_m0 82 rfl) rfl
theorem q90 : (Jvm.Cond.code ({ cls := "ProductDesk", name := "lay", desc := "(Z)V" } : Jvm.MethodName) prog_1_method_7_code (3 : Nat) (Option.none : Option Jvm.ClassFile.FieldType)) ∈ lw_all := lw_g (lw_at lw_m0 83 rfl) rfl
theorem q91 : (Jvm.Cond.methodLink "ProductDesk" (75 : Nat) ({ cls := "ProductDesk", name := "multiply", desc := "(IZ)V" } : Jvm.MethodName)) ∈ lw_all := lw_g (lw_at lw_m0 84 rfl) rfl
theorem q92 : (Jvm.Cond.privateMethod ({ cls := "ProductDesk", name := "multiply", desc := "(IZ)V" } : Jvm.MethodName)) ∈ lw_tbl := lw_at lw_m0 85 rfl
theorem q93 : (Jvm.Cond.instanceMethod ({ cls := "ProductDesk", name := "multiply", desc := "(IZ)V" } : Jvm.MethodName)) ∈ lw_all := lw_g (lw_at lw_m0 86 rfl) rfl
theorem q94 : (Jvm.Cond.code ({ cls := "ProductDesk", name := "multiply", desc := "(IZ)V" } : Jvm.MethodName) prog_1_method_6_code (16 : Nat) (Option.none : Option Jvm.ClassFile.FieldType)) ∈ lw_all := lw_g (lw_at lw_m0 87 rfl) rfl
theorem q95 : (Jvm.Cond.methodLink "ProductDesk" (53 : Nat) ({ cls := "ProductDesk$Ring", name := "product", desc := "([J[JIZ)V" } : Jvm.MethodName)) ∈ lw_all := lw_g (lw_at lw_m0 88 rfl) rfl
theorem q128 : (Jvm.Cond.methodLink "ProductDesk" (61 : Nat) ({ cls := "ProductDesk$Ring", name := "inverse", desc := "(J)J" } : Jvm.MethodName)) ∈ lw_all := lw_g (lw_at lw_m0 121 rfl) rfl
theorem q129 : (Jvm.Cond.methodLink "ProductDesk" (65 : Nat) ({ cls := "ProductDesk$Ring", name := "at", desc := "(I)J" } : Jvm.MethodName)) ∈ lw_all := lw_g (lw_at lw_m0 122 rfl) rfl
theorem q133 : (Jvm.Cond.constantLong "ProductDesk" (69 : Nat) (2 : Int64)) ∈ lw_all := lw_g (lw_at lw_m0 126 rfl) rfl
theorem q135 : (Jvm.Cond.instanceMethod ({ cls := "ProductDesk", name := "circle", desc := "(I)V" } : Jvm.MethodName)) ∈ lw_all := lw_g (lw_at lw_m0 128 rfl) rfl
theorem q136 : (Jvm.Cond.selects "ProductDesk" ({ cls := "ProductDesk", name := "circle", desc := "(I)V" } : Jvm.MethodName) ({ cls := "ProductDesk", name := "circle", desc := "(I)V" } : Jvm.MethodName)) ∈ lw_all := lw_g (lw_at lw_m0 129 rfl) rfl
theorem q137 : (Jvm.Cond.code ({ cls := "ProductDesk", name := "circle", desc := "(I)V" } : Jvm.MethodName) prog_1_method_10_code (2 : Nat) (Option.none : Option Jvm.ClassFile.FieldType)) ∈ lw_all := lw_g (lw_at lw_m0 130 rfl) rfl
theorem q138 : (Jvm.Cond.methodLink "ProductDesk" (79 : Nat) ({ cls := "ProductDesk", name := "fold", desc := "(IZ)V" } : Jvm.MethodName)) ∈ lw_all := lw_g (lw_at lw_m0 131 rfl) rfl
theorem q139 : (Jvm.Cond.privateMethod ({ cls := "ProductDesk", name := "fold", desc := "(IZ)V" } : Jvm.MethodName)) ∈ lw_tbl := lw_at lw_m0 132 rfl
theorem q140 : (Jvm.Cond.instanceMethod ({ cls := "ProductDesk", name := "fold", desc := "(IZ)V" } : Jvm.MethodName)) ∈ lw_all := lw_g (lw_at lw_m0 133 rfl) rfl
theorem q141 : (Jvm.Cond.code ({ cls := "ProductDesk", name := "fold", desc := "(IZ)V" } : Jvm.MethodName) prog_1_method_9_code (4 : Nat) (Option.none : Option Jvm.ClassFile.FieldType)) ∈ lw_all := lw_g (lw_at lw_m0 134 rfl) rfl
theorem q143 : (Jvm.Cond.instanceMethod ({ cls := "ProductDesk", name := "twisted", desc := "(I)V" } : Jvm.MethodName)) ∈ lw_all := lw_g (lw_at lw_m0 136 rfl) rfl
theorem q144 : (Jvm.Cond.selects "ProductDesk" ({ cls := "ProductDesk", name := "twisted", desc := "(I)V" } : Jvm.MethodName) ({ cls := "ProductDesk", name := "twisted", desc := "(I)V" } : Jvm.MethodName)) ∈ lw_all := lw_g (lw_at lw_m0 137 rfl) rfl
theorem q145 : (Jvm.Cond.code ({ cls := "ProductDesk", name := "twisted", desc := "(I)V" } : Jvm.MethodName) prog_1_method_11_code (2 : Nat) (Option.none : Option Jvm.ClassFile.FieldType)) ∈ lw_all := lw_g (lw_at lw_m0 138 rfl) rfl
theorem q147 : (Jvm.Cond.instanceMethod ({ cls := "ProductDesk", name := "likeness", desc := "()V" } : Jvm.MethodName)) ∈ lw_all := lw_g (lw_at lw_m0 140 rfl) rfl
theorem q148 : (Jvm.Cond.selects "ProductDesk" ({ cls := "ProductDesk", name := "likeness", desc := "()V" } : Jvm.MethodName) ({ cls := "ProductDesk", name := "likeness", desc := "()V" } : Jvm.MethodName)) ∈ lw_all := lw_g (lw_at lw_m0 141 rfl) rfl
theorem q149 : (Jvm.Cond.code ({ cls := "ProductDesk", name := "likeness", desc := "()V" } : Jvm.MethodName) prog_1_method_12_code (1 : Nat) (Option.none : Option Jvm.ClassFile.FieldType)) ∈ lw_all := lw_g (lw_at lw_m0 142 rfl) rfl
theorem q151 : (Jvm.Cond.instanceMethod ({ cls := "ProductDesk", name := "at", desc := "(I)J" } : Jvm.MethodName)) ∈ lw_all := lw_g (lw_at lw_m0 144 rfl) rfl
theorem q152 : (Jvm.Cond.selects "ProductDesk" ({ cls := "ProductDesk", name := "at", desc := "(I)J" } : Jvm.MethodName) ({ cls := "ProductDesk", name := "at", desc := "(I)J" } : Jvm.MethodName)) ∈ lw_all := lw_g (lw_at lw_m0 145 rfl) rfl
theorem q153 : (Jvm.Cond.code ({ cls := "ProductDesk", name := "at", desc := "(I)J" } : Jvm.MethodName) prog_1_method_13_code (2 : Nat) (Option.some Jvm.ClassFile.FieldType.long)) ∈ lw_all := lw_g (lw_at lw_m0 146 rfl) rfl
theorem in_X0 : ∀ w ∈ wsX00, w ∈ lw_all := lw_in wsX00 [48, 50, 52, 54, 56, 58, 60, 62, 64] (by decide +kernel) (by decide +kernel)
end
section
/-! ProductDesk$Ring -/
set_option maxRecDepth 100000
def RX1 : String := "ProductDesk$Ring"
def TX1 : u_T := fun k => match k with
  | 0 => ("ProductDesk$Ring", "p", "J", true)
  | 1 => ("ProductDesk$Ring", "a", "[J", true)
  | _ => ("ProductDesk$Ring", "b", "[J", true)
def tyX1 : Nat → FieldType := fun k => match k with
  | 0 => .long
  | 1 => .array .long
  | _ => .array .long
abbrev wsX10 : List Cond := u_ws RX1 TX1 3
theorem nmX1 : ∀ a, a < 3 → ∀ b, b < 3 → a ≠ b → (TX1 a).2.1 ≠ (TX1 b).2.1 := by decide +kernel
theorem tyX1_ok : ∀ k, k < 3 → parseFieldDescriptor (TX1 k).2.2.1 = some (tyX1 k) := by decide +kernel
abbrev cX1_init : ByteArray := prog_2_method_1_code
def yX1_init : MethodName := ⟨RX1, "<init>", "(J)V"⟩
theorem dX1_init_0 : decode cX1_init 0 = .ok (.aload_n 0, 1) := by decide +kernel
theorem dX1_init_1 : decode cX1_init 1 = .ok (.invokespecial 3, 3) := by decide +kernel
theorem dX1_init_4 : decode cX1_init 4 = .ok (.aload_n 0, 1) := by decide +kernel
theorem dX1_init_5 : decode cX1_init 5 = .ok (.sipush 512, 3) := by decide +kernel
theorem dX1_init_8 : decode cX1_init 8 = .ok (.newarray .long, 2) := by decide +kernel
theorem dX1_init_10 : decode cX1_init 10 = .ok (.putfield 9, 3) := by decide +kernel
theorem dX1_init_13 : decode cX1_init 13 = .ok (.aload_n 0, 1) := by decide +kernel
theorem dX1_init_14 : decode cX1_init 14 = .ok (.sipush 512, 3) := by decide +kernel
theorem dX1_init_17 : decode cX1_init 17 = .ok (.newarray .long, 2) := by decide +kernel
theorem dX1_init_19 : decode cX1_init 19 = .ok (.putfield 15, 3) := by decide +kernel
theorem dX1_init_22 : decode cX1_init 22 = .ok (.aload_n 0, 1) := by decide +kernel
theorem dX1_init_23 : decode cX1_init 23 = .ok (.lload_n 1, 1) := by decide +kernel
theorem dX1_init_24 : decode cX1_init 24 = .ok (.putfield 18, 3) := by decide +kernel
theorem dX1_init_27 : decode cX1_init 27 = .ok (.return_, 1) := by decide +kernel
abbrev cX1_product : ByteArray := prog_2_method_9_code
def yX1_product : MethodName := ⟨RX1, "product", "([J[JIZ)V"⟩
theorem dX1_product_0 : decode cX1_product 0 = .ok (.iconst 0, 1) := by decide +kernel
theorem dX1_product_1 : decode cX1_product 1 = .ok (.istore 5, 2) := by decide +kernel
theorem dX1_product_3 : decode cX1_product 3 = .ok (.iload 5, 2) := by decide +kernel
theorem dX1_product_5 : decode cX1_product 5 = .ok (.iload_n 3, 1) := by decide +kernel
theorem dX1_product_6 : decode cX1_product 6 = .ok (.if_icmp .ge 39, 3) := by decide +kernel
theorem dX1_product_9 : decode cX1_product 9 = .ok (.aload_n 0, 1) := by decide +kernel
theorem dX1_product_10 : decode cX1_product 10 = .ok (.getfield 9, 3) := by decide +kernel
theorem dX1_product_13 : decode cX1_product 13 = .ok (.iload 5, 2) := by decide +kernel
theorem dX1_product_15 : decode cX1_product 15 = .ok (.aload_n 0, 1) := by decide +kernel
theorem dX1_product_16 : decode cX1_product 16 = .ok (.aload_n 1, 1) := by decide +kernel
theorem dX1_product_17 : decode cX1_product 17 = .ok (.iload 5, 2) := by decide +kernel
theorem dX1_product_19 : decode cX1_product 19 = .ok (.laload, 1) := by decide +kernel
theorem dX1_product_20 : decode cX1_product 20 = .ok (.invokevirtual 34, 3) := by decide +kernel
theorem dX1_product_23 : decode cX1_product 23 = .ok (.lastore, 1) := by decide +kernel
theorem dX1_product_24 : decode cX1_product 24 = .ok (.aload_n 0, 1) := by decide +kernel
theorem dX1_product_25 : decode cX1_product 25 = .ok (.getfield 15, 3) := by decide +kernel
theorem dX1_product_28 : decode cX1_product 28 = .ok (.iload 5, 2) := by decide +kernel
theorem dX1_product_30 : decode cX1_product 30 = .ok (.aload_n 0, 1) := by decide +kernel
theorem dX1_product_31 : decode cX1_product 31 = .ok (.aload_n 2, 1) := by decide +kernel
theorem dX1_product_32 : decode cX1_product 32 = .ok (.iload 5, 2) := by decide +kernel
theorem dX1_product_34 : decode cX1_product 34 = .ok (.laload, 1) := by decide +kernel
theorem dX1_product_35 : decode cX1_product 35 = .ok (.invokevirtual 34, 3) := by decide +kernel
theorem dX1_product_38 : decode cX1_product 38 = .ok (.lastore, 1) := by decide +kernel
theorem dX1_product_39 : decode cX1_product 39 = .ok (.iinc 5 1, 3) := by decide +kernel
theorem dX1_product_42 : decode cX1_product 42 = .ok (.goto (-39), 3) := by decide +kernel
theorem dX1_product_45 : decode cX1_product 45 = .ok (.aload_n 0, 1) := by decide +kernel
theorem dX1_product_46 : decode cX1_product 46 = .ok (.iconst 2, 1) := by decide +kernel
theorem dX1_product_47 : decode cX1_product 47 = .ok (.iload_n 3, 1) := by decide +kernel
theorem dX1_product_48 : decode cX1_product 48 = .ok (.imul, 1) := by decide +kernel
theorem dX1_product_49 : decode cX1_product 49 = .ok (.invokevirtual 38, 3) := by decide +kernel
theorem dX1_product_52 : decode cX1_product 52 = .ok (.lstore 5, 2) := by decide +kernel
theorem dX1_product_54 : decode cX1_product 54 = .ok (.iload 4, 2) := by decide +kernel
theorem dX1_product_56 : decode cX1_product 56 = .ok (.ifCond .eq 25, 3) := by decide +kernel
theorem dX1_product_59 : decode cX1_product 59 = .ok (.aload_n 0, 1) := by decide +kernel
theorem dX1_product_60 : decode cX1_product 60 = .ok (.aload_n 0, 1) := by decide +kernel
theorem dX1_product_61 : decode cX1_product 61 = .ok (.getfield 9, 3) := by decide +kernel
theorem dX1_product_64 : decode cX1_product 64 = .ok (.iload_n 3, 1) := by decide +kernel
theorem dX1_product_65 : decode cX1_product 65 = .ok (.lload 5, 2) := by decide +kernel
theorem dX1_product_67 : decode cX1_product 67 = .ok (.invokevirtual 42, 3) := by decide +kernel
theorem dX1_product_70 : decode cX1_product 70 = .ok (.aload_n 0, 1) := by decide +kernel
theorem dX1_product_71 : decode cX1_product 71 = .ok (.aload_n 0, 1) := by decide +kernel
theorem dX1_product_72 : decode cX1_product 72 = .ok (.getfield 15, 3) := by decide +kernel
theorem dX1_product_75 : decode cX1_product 75 = .ok (.iload_n 3, 1) := by decide +kernel
theorem dX1_product_76 : decode cX1_product 76 = .ok (.lload 5, 2) := by decide +kernel
theorem dX1_product_78 : decode cX1_product 78 = .ok (.invokevirtual 42, 3) := by decide +kernel
theorem dX1_product_81 : decode cX1_product 81 = .ok (.aload_n 0, 1) := by decide +kernel
theorem dX1_product_82 : decode cX1_product 82 = .ok (.aload_n 0, 1) := by decide +kernel
theorem dX1_product_83 : decode cX1_product 83 = .ok (.getfield 9, 3) := by decide +kernel
theorem dX1_product_86 : decode cX1_product 86 = .ok (.iload_n 3, 1) := by decide +kernel
theorem dX1_product_87 : decode cX1_product 87 = .ok (.aload_n 0, 1) := by decide +kernel
theorem dX1_product_88 : decode cX1_product 88 = .ok (.iload_n 3, 1) := by decide +kernel
theorem dX1_product_89 : decode cX1_product 89 = .ok (.invokevirtual 38, 3) := by decide +kernel
theorem dX1_product_92 : decode cX1_product 92 = .ok (.invokevirtual 46, 3) := by decide +kernel
theorem dX1_product_95 : decode cX1_product 95 = .ok (.aload_n 0, 1) := by decide +kernel
theorem dX1_product_96 : decode cX1_product 96 = .ok (.aload_n 0, 1) := by decide +kernel
theorem dX1_product_97 : decode cX1_product 97 = .ok (.getfield 15, 3) := by decide +kernel
theorem dX1_product_100 : decode cX1_product 100 = .ok (.iload_n 3, 1) := by decide +kernel
theorem dX1_product_101 : decode cX1_product 101 = .ok (.aload_n 0, 1) := by decide +kernel
theorem dX1_product_102 : decode cX1_product 102 = .ok (.iload_n 3, 1) := by decide +kernel
theorem dX1_product_103 : decode cX1_product 103 = .ok (.invokevirtual 38, 3) := by decide +kernel
theorem dX1_product_106 : decode cX1_product 106 = .ok (.invokevirtual 46, 3) := by decide +kernel
theorem dX1_product_109 : decode cX1_product 109 = .ok (.iconst 0, 1) := by decide +kernel
theorem dX1_product_110 : decode cX1_product 110 = .ok (.istore 7, 2) := by decide +kernel
theorem dX1_product_112 : decode cX1_product 112 = .ok (.iload 7, 2) := by decide +kernel
theorem dX1_product_114 : decode cX1_product 114 = .ok (.iload_n 3, 1) := by decide +kernel
theorem dX1_product_115 : decode cX1_product 115 = .ok (.if_icmp .ge 36, 3) := by decide +kernel
theorem dX1_product_118 : decode cX1_product 118 = .ok (.aload_n 0, 1) := by decide +kernel
theorem dX1_product_119 : decode cX1_product 119 = .ok (.getfield 9, 3) := by decide +kernel
theorem dX1_product_122 : decode cX1_product 122 = .ok (.iload 7, 2) := by decide +kernel
theorem dX1_product_124 : decode cX1_product 124 = .ok (.aload_n 0, 1) := by decide +kernel
theorem dX1_product_125 : decode cX1_product 125 = .ok (.getfield 9, 3) := by decide +kernel
theorem dX1_product_128 : decode cX1_product 128 = .ok (.iload 7, 2) := by decide +kernel
theorem dX1_product_130 : decode cX1_product 130 = .ok (.laload, 1) := by decide +kernel
theorem dX1_product_131 : decode cX1_product 131 = .ok (.aload_n 0, 1) := by decide +kernel
theorem dX1_product_132 : decode cX1_product 132 = .ok (.getfield 15, 3) := by decide +kernel
theorem dX1_product_135 : decode cX1_product 135 = .ok (.iload 7, 2) := by decide +kernel
theorem dX1_product_137 : decode cX1_product 137 = .ok (.laload, 1) := by decide +kernel
theorem dX1_product_138 : decode cX1_product 138 = .ok (.lmul, 1) := by decide +kernel
theorem dX1_product_139 : decode cX1_product 139 = .ok (.aload_n 0, 1) := by decide +kernel
theorem dX1_product_140 : decode cX1_product 140 = .ok (.getfield 18, 3) := by decide +kernel
theorem dX1_product_143 : decode cX1_product 143 = .ok (.lrem, 1) := by decide +kernel
theorem dX1_product_144 : decode cX1_product 144 = .ok (.lastore, 1) := by decide +kernel
theorem dX1_product_145 : decode cX1_product 145 = .ok (.iinc 7 1, 3) := by decide +kernel
theorem dX1_product_148 : decode cX1_product 148 = .ok (.goto (-36), 3) := by decide +kernel
theorem dX1_product_151 : decode cX1_product 151 = .ok (.aload_n 0, 1) := by decide +kernel
theorem dX1_product_152 : decode cX1_product 152 = .ok (.aload_n 0, 1) := by decide +kernel
theorem dX1_product_153 : decode cX1_product 153 = .ok (.getfield 9, 3) := by decide +kernel
theorem dX1_product_156 : decode cX1_product 156 = .ok (.iload_n 3, 1) := by decide +kernel
theorem dX1_product_157 : decode cX1_product 157 = .ok (.aload_n 0, 1) := by decide +kernel
theorem dX1_product_158 : decode cX1_product 158 = .ok (.aload_n 0, 1) := by decide +kernel
theorem dX1_product_159 : decode cX1_product 159 = .ok (.iload_n 3, 1) := by decide +kernel
theorem dX1_product_160 : decode cX1_product 160 = .ok (.invokevirtual 38, 3) := by decide +kernel
theorem dX1_product_163 : decode cX1_product 163 = .ok (.invokevirtual 49, 3) := by decide +kernel
theorem dX1_product_166 : decode cX1_product 166 = .ok (.invokevirtual 46, 3) := by decide +kernel
theorem dX1_product_169 : decode cX1_product 169 = .ok (.aload_n 0, 1) := by decide +kernel
theorem dX1_product_170 : decode cX1_product 170 = .ok (.aload_n 0, 1) := by decide +kernel
theorem dX1_product_171 : decode cX1_product 171 = .ok (.getfield 9, 3) := by decide +kernel
theorem dX1_product_174 : decode cX1_product 174 = .ok (.iload_n 3, 1) := by decide +kernel
theorem dX1_product_175 : decode cX1_product 175 = .ok (.iload 4, 2) := by decide +kernel
theorem dX1_product_177 : decode cX1_product 177 = .ok (.ifCond .eq 12, 3) := by decide +kernel
theorem dX1_product_180 : decode cX1_product 180 = .ok (.aload_n 0, 1) := by decide +kernel
theorem dX1_product_181 : decode cX1_product 181 = .ok (.lload 5, 2) := by decide +kernel
theorem dX1_product_183 : decode cX1_product 183 = .ok (.invokevirtual 49, 3) := by decide +kernel
theorem dX1_product_186 : decode cX1_product 186 = .ok (.goto 4, 3) := by decide +kernel
theorem dX1_product_189 : decode cX1_product 189 = .ok (.lconst 1, 1) := by decide +kernel
theorem dX1_product_190 : decode cX1_product 190 = .ok (.invokevirtual 42, 3) := by decide +kernel
theorem dX1_product_193 : decode cX1_product 193 = .ok (.aload_n 0, 1) := by decide +kernel
theorem dX1_product_194 : decode cX1_product 194 = .ok (.iload_n 3, 1) := by decide +kernel
theorem dX1_product_195 : decode cX1_product 195 = .ok (.i2l, 1) := by decide +kernel
theorem dX1_product_196 : decode cX1_product 196 = .ok (.invokevirtual 49, 3) := by decide +kernel
theorem dX1_product_199 : decode cX1_product 199 = .ok (.lstore 7, 2) := by decide +kernel
theorem dX1_product_201 : decode cX1_product 201 = .ok (.iconst 0, 1) := by decide +kernel
theorem dX1_product_202 : decode cX1_product 202 = .ok (.istore 9, 2) := by decide +kernel
theorem dX1_product_204 : decode cX1_product 204 = .ok (.iload 9, 2) := by decide +kernel
theorem dX1_product_206 : decode cX1_product 206 = .ok (.iload_n 3, 1) := by decide +kernel
theorem dX1_product_207 : decode cX1_product 207 = .ok (.if_icmp .ge 31, 3) := by decide +kernel
theorem dX1_product_210 : decode cX1_product 210 = .ok (.aload_n 0, 1) := by decide +kernel
theorem dX1_product_211 : decode cX1_product 211 = .ok (.getfield 9, 3) := by decide +kernel
theorem dX1_product_214 : decode cX1_product 214 = .ok (.iload 9, 2) := by decide +kernel
theorem dX1_product_216 : decode cX1_product 216 = .ok (.aload_n 0, 1) := by decide +kernel
theorem dX1_product_217 : decode cX1_product 217 = .ok (.getfield 9, 3) := by decide +kernel
theorem dX1_product_220 : decode cX1_product 220 = .ok (.iload 9, 2) := by decide +kernel
theorem dX1_product_222 : decode cX1_product 222 = .ok (.laload, 1) := by decide +kernel
theorem dX1_product_223 : decode cX1_product 223 = .ok (.lload 7, 2) := by decide +kernel
theorem dX1_product_225 : decode cX1_product 225 = .ok (.lmul, 1) := by decide +kernel
theorem dX1_product_226 : decode cX1_product 226 = .ok (.aload_n 0, 1) := by decide +kernel
theorem dX1_product_227 : decode cX1_product 227 = .ok (.getfield 18, 3) := by decide +kernel
theorem dX1_product_230 : decode cX1_product 230 = .ok (.lrem, 1) := by decide +kernel
theorem dX1_product_231 : decode cX1_product 231 = .ok (.lastore, 1) := by decide +kernel
theorem dX1_product_232 : decode cX1_product 232 = .ok (.iinc 9 1, 3) := by decide +kernel
theorem dX1_product_235 : decode cX1_product 235 = .ok (.goto (-31), 3) := by decide +kernel
theorem dX1_product_238 : decode cX1_product 238 = .ok (.return_, 1) := by decide +kernel
abbrev cX1_of : ByteArray := prog_2_method_8_code
def yX1_of : MethodName := ⟨RX1, "of", "(J)J"⟩
theorem dX1_of_0 : decode cX1_of 0 = .ok (.lload_n 1, 1) := by decide +kernel
theorem dX1_of_1 : decode cX1_of 1 = .ok (.aload_n 0, 1) := by decide +kernel
theorem dX1_of_2 : decode cX1_of 2 = .ok (.getfield 18, 3) := by decide +kernel
theorem dX1_of_5 : decode cX1_of 5 = .ok (.lrem, 1) := by decide +kernel
theorem dX1_of_6 : decode cX1_of 6 = .ok (.lstore_n 3, 1) := by decide +kernel
theorem dX1_of_7 : decode cX1_of 7 = .ok (.lload_n 3, 1) := by decide +kernel
theorem dX1_of_8 : decode cX1_of 8 = .ok (.lconst 0, 1) := by decide +kernel
theorem dX1_of_9 : decode cX1_of 9 = .ok (.lcmp, 1) := by decide +kernel
theorem dX1_of_10 : decode cX1_of 10 = .ok (.ifCond .ge 12, 3) := by decide +kernel
theorem dX1_of_13 : decode cX1_of 13 = .ok (.lload_n 3, 1) := by decide +kernel
theorem dX1_of_14 : decode cX1_of 14 = .ok (.aload_n 0, 1) := by decide +kernel
theorem dX1_of_15 : decode cX1_of 15 = .ok (.getfield 18, 3) := by decide +kernel
theorem dX1_of_18 : decode cX1_of 18 = .ok (.ladd, 1) := by decide +kernel
theorem dX1_of_19 : decode cX1_of 19 = .ok (.goto 4, 3) := by decide +kernel
theorem dX1_of_22 : decode cX1_of 22 = .ok (.lload_n 3, 1) := by decide +kernel
theorem dX1_of_23 : decode cX1_of 23 = .ok (.lreturn, 1) := by decide +kernel
abbrev cX1_root : ByteArray := prog_2_method_4_code
def yX1_root : MethodName := ⟨RX1, "root", "(I)J"⟩
theorem dX1_root_0 : decode cX1_root 0 = .ok (.aload_n 0, 1) := by decide +kernel
theorem dX1_root_1 : decode cX1_root 1 = .ok (.ldc2_w 28, 3) := by decide +kernel
theorem dX1_root_4 : decode cX1_root 4 = .ok (.aload_n 0, 1) := by decide +kernel
theorem dX1_root_5 : decode cX1_root 5 = .ok (.getfield 18, 3) := by decide +kernel
theorem dX1_root_8 : decode cX1_root 8 = .ok (.lconst 1, 1) := by decide +kernel
theorem dX1_root_9 : decode cX1_root 9 = .ok (.lsub, 1) := by decide +kernel
theorem dX1_root_10 : decode cX1_root 10 = .ok (.iload_n 1, 1) := by decide +kernel
theorem dX1_root_11 : decode cX1_root 11 = .ok (.i2l, 1) := by decide +kernel
theorem dX1_root_12 : decode cX1_root 12 = .ok (.ldiv, 1) := by decide +kernel
theorem dX1_root_13 : decode cX1_root 13 = .ok (.invokevirtual 24, 3) := by decide +kernel
theorem dX1_root_16 : decode cX1_root 16 = .ok (.lreturn, 1) := by decide +kernel
abbrev cX1_power : ByteArray := prog_2_method_2_code
def yX1_power : MethodName := ⟨RX1, "power", "(JJ)J"⟩
theorem dX1_power_0 : decode cX1_power 0 = .ok (.lconst 1, 1) := by decide +kernel
theorem dX1_power_1 : decode cX1_power 1 = .ok (.lstore 5, 2) := by decide +kernel
theorem dX1_power_3 : decode cX1_power 3 = .ok (.lload_n 1, 1) := by decide +kernel
theorem dX1_power_4 : decode cX1_power 4 = .ok (.lstore 7, 2) := by decide +kernel
theorem dX1_power_6 : decode cX1_power 6 = .ok (.lload_n 3, 1) := by decide +kernel
theorem dX1_power_7 : decode cX1_power 7 = .ok (.lstore 9, 2) := by decide +kernel
theorem dX1_power_9 : decode cX1_power 9 = .ok (.lload 9, 2) := by decide +kernel
theorem dX1_power_11 : decode cX1_power 11 = .ok (.lconst 0, 1) := by decide +kernel
theorem dX1_power_12 : decode cX1_power 12 = .ok (.lcmp, 1) := by decide +kernel
theorem dX1_power_13 : decode cX1_power 13 = .ok (.ifCond .le 45, 3) := by decide +kernel
theorem dX1_power_16 : decode cX1_power 16 = .ok (.lload 9, 2) := by decide +kernel
theorem dX1_power_18 : decode cX1_power 18 = .ok (.lconst 1, 1) := by decide +kernel
theorem dX1_power_19 : decode cX1_power 19 = .ok (.land, 1) := by decide +kernel
theorem dX1_power_20 : decode cX1_power 20 = .ok (.lconst 1, 1) := by decide +kernel
theorem dX1_power_21 : decode cX1_power 21 = .ok (.lcmp, 1) := by decide +kernel
theorem dX1_power_22 : decode cX1_power 22 = .ok (.ifCond .ne 15, 3) := by decide +kernel
theorem dX1_power_25 : decode cX1_power 25 = .ok (.lload 5, 2) := by decide +kernel
theorem dX1_power_27 : decode cX1_power 27 = .ok (.lload 7, 2) := by decide +kernel
theorem dX1_power_29 : decode cX1_power 29 = .ok (.lmul, 1) := by decide +kernel
theorem dX1_power_30 : decode cX1_power 30 = .ok (.aload_n 0, 1) := by decide +kernel
theorem dX1_power_31 : decode cX1_power 31 = .ok (.getfield 18, 3) := by decide +kernel
theorem dX1_power_34 : decode cX1_power 34 = .ok (.lrem, 1) := by decide +kernel
theorem dX1_power_35 : decode cX1_power 35 = .ok (.lstore 5, 2) := by decide +kernel
theorem dX1_power_37 : decode cX1_power 37 = .ok (.lload 7, 2) := by decide +kernel
theorem dX1_power_39 : decode cX1_power 39 = .ok (.lload 7, 2) := by decide +kernel
theorem dX1_power_41 : decode cX1_power 41 = .ok (.lmul, 1) := by decide +kernel
theorem dX1_power_42 : decode cX1_power 42 = .ok (.aload_n 0, 1) := by decide +kernel
theorem dX1_power_43 : decode cX1_power 43 = .ok (.getfield 18, 3) := by decide +kernel
theorem dX1_power_46 : decode cX1_power 46 = .ok (.lrem, 1) := by decide +kernel
theorem dX1_power_47 : decode cX1_power 47 = .ok (.lstore 7, 2) := by decide +kernel
theorem dX1_power_49 : decode cX1_power 49 = .ok (.lload 9, 2) := by decide +kernel
theorem dX1_power_51 : decode cX1_power 51 = .ok (.iconst 1, 1) := by decide +kernel
theorem dX1_power_52 : decode cX1_power 52 = .ok (.lshr, 1) := by decide +kernel
theorem dX1_power_53 : decode cX1_power 53 = .ok (.lstore 9, 2) := by decide +kernel
theorem dX1_power_55 : decode cX1_power 55 = .ok (.goto (-46), 3) := by decide +kernel
theorem dX1_power_58 : decode cX1_power 58 = .ok (.lload 5, 2) := by decide +kernel
theorem dX1_power_60 : decode cX1_power 60 = .ok (.lreturn, 1) := by decide +kernel
abbrev cX1_weigh : ByteArray := prog_2_method_7_code
def yX1_weigh : MethodName := ⟨RX1, "weigh", "([JIJ)V"⟩
theorem dX1_weigh_0 : decode cX1_weigh 0 = .ok (.lconst 1, 1) := by decide +kernel
theorem dX1_weigh_1 : decode cX1_weigh 1 = .ok (.lstore 5, 2) := by decide +kernel
theorem dX1_weigh_3 : decode cX1_weigh 3 = .ok (.iconst 0, 1) := by decide +kernel
theorem dX1_weigh_4 : decode cX1_weigh 4 = .ok (.istore 7, 2) := by decide +kernel
theorem dX1_weigh_6 : decode cX1_weigh 6 = .ok (.iload 7, 2) := by decide +kernel
theorem dX1_weigh_8 : decode cX1_weigh 8 = .ok (.iload_n 2, 1) := by decide +kernel
theorem dX1_weigh_9 : decode cX1_weigh 9 = .ok (.if_icmp .ge 36, 3) := by decide +kernel
theorem dX1_weigh_12 : decode cX1_weigh 12 = .ok (.aload_n 1, 1) := by decide +kernel
theorem dX1_weigh_13 : decode cX1_weigh 13 = .ok (.iload 7, 2) := by decide +kernel
theorem dX1_weigh_15 : decode cX1_weigh 15 = .ok (.aload_n 1, 1) := by decide +kernel
theorem dX1_weigh_16 : decode cX1_weigh 16 = .ok (.iload 7, 2) := by decide +kernel
theorem dX1_weigh_18 : decode cX1_weigh 18 = .ok (.laload, 1) := by decide +kernel
theorem dX1_weigh_19 : decode cX1_weigh 19 = .ok (.lload 5, 2) := by decide +kernel
theorem dX1_weigh_21 : decode cX1_weigh 21 = .ok (.lmul, 1) := by decide +kernel
theorem dX1_weigh_22 : decode cX1_weigh 22 = .ok (.aload_n 0, 1) := by decide +kernel
theorem dX1_weigh_23 : decode cX1_weigh 23 = .ok (.getfield 18, 3) := by decide +kernel
theorem dX1_weigh_26 : decode cX1_weigh 26 = .ok (.lrem, 1) := by decide +kernel
theorem dX1_weigh_27 : decode cX1_weigh 27 = .ok (.lastore, 1) := by decide +kernel
theorem dX1_weigh_28 : decode cX1_weigh 28 = .ok (.lload 5, 2) := by decide +kernel
theorem dX1_weigh_30 : decode cX1_weigh 30 = .ok (.lload_n 3, 1) := by decide +kernel
theorem dX1_weigh_31 : decode cX1_weigh 31 = .ok (.lmul, 1) := by decide +kernel
theorem dX1_weigh_32 : decode cX1_weigh 32 = .ok (.aload_n 0, 1) := by decide +kernel
theorem dX1_weigh_33 : decode cX1_weigh 33 = .ok (.getfield 18, 3) := by decide +kernel
theorem dX1_weigh_36 : decode cX1_weigh 36 = .ok (.lrem, 1) := by decide +kernel
theorem dX1_weigh_37 : decode cX1_weigh 37 = .ok (.lstore 5, 2) := by decide +kernel
theorem dX1_weigh_39 : decode cX1_weigh 39 = .ok (.iinc 7 1, 3) := by decide +kernel
theorem dX1_weigh_42 : decode cX1_weigh 42 = .ok (.goto (-36), 3) := by decide +kernel
theorem dX1_weigh_45 : decode cX1_weigh 45 = .ok (.return_, 1) := by decide +kernel
abbrev cX1_transform : ByteArray := prog_2_method_6_code
def yX1_transform : MethodName := ⟨RX1, "transform", "([JIJ)V"⟩
theorem dX1_transform_0 : decode cX1_transform 0 = .ok (.iconst 0, 1) := by decide +kernel
theorem dX1_transform_1 : decode cX1_transform 1 = .ok (.istore 5, 2) := by decide +kernel
theorem dX1_transform_3 : decode cX1_transform 3 = .ok (.iconst 1, 1) := by decide +kernel
theorem dX1_transform_4 : decode cX1_transform 4 = .ok (.iload 5, 2) := by decide +kernel
theorem dX1_transform_6 : decode cX1_transform 6 = .ok (.ishl, 1) := by decide +kernel
theorem dX1_transform_7 : decode cX1_transform 7 = .ok (.iload_n 2, 1) := by decide +kernel
theorem dX1_transform_8 : decode cX1_transform 8 = .ok (.if_icmp .ge 9, 3) := by decide +kernel
theorem dX1_transform_11 : decode cX1_transform 11 = .ok (.iinc 5 1, 3) := by decide +kernel
theorem dX1_transform_14 : decode cX1_transform 14 = .ok (.goto (-11), 3) := by decide +kernel
theorem dX1_transform_17 : decode cX1_transform 17 = .ok (.iconst 0, 1) := by decide +kernel
theorem dX1_transform_18 : decode cX1_transform 18 = .ok (.istore 6, 2) := by decide +kernel
theorem dX1_transform_20 : decode cX1_transform 20 = .ok (.iload 6, 2) := by decide +kernel
theorem dX1_transform_22 : decode cX1_transform 22 = .ok (.iload_n 2, 1) := by decide +kernel
theorem dX1_transform_23 : decode cX1_transform 23 = .ok (.if_icmp .ge 48, 3) := by decide +kernel
theorem dX1_transform_26 : decode cX1_transform 26 = .ok (.iload 6, 2) := by decide +kernel
theorem dX1_transform_28 : decode cX1_transform 28 = .ok (.iload 5, 2) := by decide +kernel
theorem dX1_transform_30 : decode cX1_transform 30 = .ok (.invokestatic 30, 3) := by decide +kernel
theorem dX1_transform_33 : decode cX1_transform 33 = .ok (.istore 7, 2) := by decide +kernel
theorem dX1_transform_35 : decode cX1_transform 35 = .ok (.iload 6, 2) := by decide +kernel
theorem dX1_transform_37 : decode cX1_transform 37 = .ok (.iload 7, 2) := by decide +kernel
theorem dX1_transform_39 : decode cX1_transform 39 = .ok (.if_icmp .lt 6, 3) := by decide +kernel
theorem dX1_transform_42 : decode cX1_transform 42 = .ok (.goto 23, 3) := by decide +kernel
theorem dX1_transform_45 : decode cX1_transform 45 = .ok (.aload_n 1, 1) := by decide +kernel
theorem dX1_transform_46 : decode cX1_transform 46 = .ok (.iload 6, 2) := by decide +kernel
theorem dX1_transform_48 : decode cX1_transform 48 = .ok (.laload, 1) := by decide +kernel
theorem dX1_transform_49 : decode cX1_transform 49 = .ok (.lstore 8, 2) := by decide +kernel
theorem dX1_transform_51 : decode cX1_transform 51 = .ok (.aload_n 1, 1) := by decide +kernel
theorem dX1_transform_52 : decode cX1_transform 52 = .ok (.iload 6, 2) := by decide +kernel
theorem dX1_transform_54 : decode cX1_transform 54 = .ok (.aload_n 1, 1) := by decide +kernel
theorem dX1_transform_55 : decode cX1_transform 55 = .ok (.iload 7, 2) := by decide +kernel
theorem dX1_transform_57 : decode cX1_transform 57 = .ok (.laload, 1) := by decide +kernel
theorem dX1_transform_58 : decode cX1_transform 58 = .ok (.lastore, 1) := by decide +kernel
theorem dX1_transform_59 : decode cX1_transform 59 = .ok (.aload_n 1, 1) := by decide +kernel
theorem dX1_transform_60 : decode cX1_transform 60 = .ok (.iload 7, 2) := by decide +kernel
theorem dX1_transform_62 : decode cX1_transform 62 = .ok (.lload 8, 2) := by decide +kernel
theorem dX1_transform_64 : decode cX1_transform 64 = .ok (.lastore, 1) := by decide +kernel
theorem dX1_transform_65 : decode cX1_transform 65 = .ok (.iinc 6 1, 3) := by decide +kernel
theorem dX1_transform_68 : decode cX1_transform 68 = .ok (.goto (-48), 3) := by decide +kernel
theorem dX1_transform_71 : decode cX1_transform 71 = .ok (.iconst 1, 1) := by decide +kernel
theorem dX1_transform_72 : decode cX1_transform 72 = .ok (.istore 6, 2) := by decide +kernel
theorem dX1_transform_74 : decode cX1_transform 74 = .ok (.iload 6, 2) := by decide +kernel
theorem dX1_transform_76 : decode cX1_transform 76 = .ok (.iload_n 2, 1) := by decide +kernel
theorem dX1_transform_77 : decode cX1_transform 77 = .ok (.if_icmp .ge 141, 3) := by decide +kernel
theorem dX1_transform_80 : decode cX1_transform 80 = .ok (.aload_n 0, 1) := by decide +kernel
theorem dX1_transform_81 : decode cX1_transform 81 = .ok (.lload_n 3, 1) := by decide +kernel
theorem dX1_transform_82 : decode cX1_transform 82 = .ok (.iload_n 2, 1) := by decide +kernel
theorem dX1_transform_83 : decode cX1_transform 83 = .ok (.iconst 2, 1) := by decide +kernel
theorem dX1_transform_84 : decode cX1_transform 84 = .ok (.iload 6, 2) := by decide +kernel
theorem dX1_transform_86 : decode cX1_transform 86 = .ok (.imul, 1) := by decide +kernel
theorem dX1_transform_87 : decode cX1_transform 87 = .ok (.idiv, 1) := by decide +kernel
theorem dX1_transform_88 : decode cX1_transform 88 = .ok (.i2l, 1) := by decide +kernel
theorem dX1_transform_89 : decode cX1_transform 89 = .ok (.invokevirtual 24, 3) := by decide +kernel
theorem dX1_transform_92 : decode cX1_transform 92 = .ok (.lstore 7, 2) := by decide +kernel
theorem dX1_transform_94 : decode cX1_transform 94 = .ok (.iconst 0, 1) := by decide +kernel
theorem dX1_transform_95 : decode cX1_transform 95 = .ok (.istore 9, 2) := by decide +kernel
theorem dX1_transform_97 : decode cX1_transform 97 = .ok (.iload 9, 2) := by decide +kernel
theorem dX1_transform_99 : decode cX1_transform 99 = .ok (.iload_n 2, 1) := by decide +kernel
theorem dX1_transform_100 : decode cX1_transform 100 = .ok (.if_icmp .ge 109, 3) := by decide +kernel
theorem dX1_transform_103 : decode cX1_transform 103 = .ok (.lconst 1, 1) := by decide +kernel
theorem dX1_transform_104 : decode cX1_transform 104 = .ok (.lstore 10, 2) := by decide +kernel
theorem dX1_transform_106 : decode cX1_transform 106 = .ok (.iload 9, 2) := by decide +kernel
theorem dX1_transform_108 : decode cX1_transform 108 = .ok (.istore 12, 2) := by decide +kernel
theorem dX1_transform_110 : decode cX1_transform 110 = .ok (.iload 12, 2) := by decide +kernel
theorem dX1_transform_112 : decode cX1_transform 112 = .ok (.iload 9, 2) := by decide +kernel
theorem dX1_transform_114 : decode cX1_transform 114 = .ok (.iload 6, 2) := by decide +kernel
theorem dX1_transform_116 : decode cX1_transform 116 = .ok (.iadd, 1) := by decide +kernel
theorem dX1_transform_117 : decode cX1_transform 117 = .ok (.if_icmp .ge 80, 3) := by decide +kernel
theorem dX1_transform_120 : decode cX1_transform 120 = .ok (.aload_n 1, 1) := by decide +kernel
theorem dX1_transform_121 : decode cX1_transform 121 = .ok (.iload 12, 2) := by decide +kernel
theorem dX1_transform_123 : decode cX1_transform 123 = .ok (.laload, 1) := by decide +kernel
theorem dX1_transform_124 : decode cX1_transform 124 = .ok (.lstore 13, 2) := by decide +kernel
theorem dX1_transform_126 : decode cX1_transform 126 = .ok (.aload_n 1, 1) := by decide +kernel
theorem dX1_transform_127 : decode cX1_transform 127 = .ok (.iload 12, 2) := by decide +kernel
theorem dX1_transform_129 : decode cX1_transform 129 = .ok (.iload 6, 2) := by decide +kernel
theorem dX1_transform_131 : decode cX1_transform 131 = .ok (.iadd, 1) := by decide +kernel
theorem dX1_transform_132 : decode cX1_transform 132 = .ok (.laload, 1) := by decide +kernel
theorem dX1_transform_133 : decode cX1_transform 133 = .ok (.lload 10, 2) := by decide +kernel
theorem dX1_transform_135 : decode cX1_transform 135 = .ok (.lmul, 1) := by decide +kernel
theorem dX1_transform_136 : decode cX1_transform 136 = .ok (.aload_n 0, 1) := by decide +kernel
theorem dX1_transform_137 : decode cX1_transform 137 = .ok (.getfield 18, 3) := by decide +kernel
theorem dX1_transform_140 : decode cX1_transform 140 = .ok (.lrem, 1) := by decide +kernel
theorem dX1_transform_141 : decode cX1_transform 141 = .ok (.lstore 15, 2) := by decide +kernel
theorem dX1_transform_143 : decode cX1_transform 143 = .ok (.aload_n 1, 1) := by decide +kernel
theorem dX1_transform_144 : decode cX1_transform 144 = .ok (.iload 12, 2) := by decide +kernel
theorem dX1_transform_146 : decode cX1_transform 146 = .ok (.lload 13, 2) := by decide +kernel
theorem dX1_transform_148 : decode cX1_transform 148 = .ok (.lload 15, 2) := by decide +kernel
theorem dX1_transform_150 : decode cX1_transform 150 = .ok (.ladd, 1) := by decide +kernel
theorem dX1_transform_151 : decode cX1_transform 151 = .ok (.aload_n 0, 1) := by decide +kernel
theorem dX1_transform_152 : decode cX1_transform 152 = .ok (.getfield 18, 3) := by decide +kernel
theorem dX1_transform_155 : decode cX1_transform 155 = .ok (.lrem, 1) := by decide +kernel
theorem dX1_transform_156 : decode cX1_transform 156 = .ok (.lastore, 1) := by decide +kernel
theorem dX1_transform_157 : decode cX1_transform 157 = .ok (.aload_n 1, 1) := by decide +kernel
theorem dX1_transform_158 : decode cX1_transform 158 = .ok (.iload 12, 2) := by decide +kernel
theorem dX1_transform_160 : decode cX1_transform 160 = .ok (.iload 6, 2) := by decide +kernel
theorem dX1_transform_162 : decode cX1_transform 162 = .ok (.iadd, 1) := by decide +kernel
theorem dX1_transform_163 : decode cX1_transform 163 = .ok (.lload 13, 2) := by decide +kernel
theorem dX1_transform_165 : decode cX1_transform 165 = .ok (.lload 15, 2) := by decide +kernel
theorem dX1_transform_167 : decode cX1_transform 167 = .ok (.lsub, 1) := by decide +kernel
theorem dX1_transform_168 : decode cX1_transform 168 = .ok (.aload_n 0, 1) := by decide +kernel
theorem dX1_transform_169 : decode cX1_transform 169 = .ok (.getfield 18, 3) := by decide +kernel
theorem dX1_transform_172 : decode cX1_transform 172 = .ok (.ladd, 1) := by decide +kernel
theorem dX1_transform_173 : decode cX1_transform 173 = .ok (.aload_n 0, 1) := by decide +kernel
theorem dX1_transform_174 : decode cX1_transform 174 = .ok (.getfield 18, 3) := by decide +kernel
theorem dX1_transform_177 : decode cX1_transform 177 = .ok (.lrem, 1) := by decide +kernel
theorem dX1_transform_178 : decode cX1_transform 178 = .ok (.lastore, 1) := by decide +kernel
theorem dX1_transform_179 : decode cX1_transform 179 = .ok (.lload 10, 2) := by decide +kernel
theorem dX1_transform_181 : decode cX1_transform 181 = .ok (.lload 7, 2) := by decide +kernel
theorem dX1_transform_183 : decode cX1_transform 183 = .ok (.lmul, 1) := by decide +kernel
theorem dX1_transform_184 : decode cX1_transform 184 = .ok (.aload_n 0, 1) := by decide +kernel
theorem dX1_transform_185 : decode cX1_transform 185 = .ok (.getfield 18, 3) := by decide +kernel
theorem dX1_transform_188 : decode cX1_transform 188 = .ok (.lrem, 1) := by decide +kernel
theorem dX1_transform_189 : decode cX1_transform 189 = .ok (.lstore 10, 2) := by decide +kernel
theorem dX1_transform_191 : decode cX1_transform 191 = .ok (.iinc 12 1, 3) := by decide +kernel
theorem dX1_transform_194 : decode cX1_transform 194 = .ok (.goto (-84), 3) := by decide +kernel
theorem dX1_transform_197 : decode cX1_transform 197 = .ok (.iload 9, 2) := by decide +kernel
theorem dX1_transform_199 : decode cX1_transform 199 = .ok (.iconst 2, 1) := by decide +kernel
theorem dX1_transform_200 : decode cX1_transform 200 = .ok (.iload 6, 2) := by decide +kernel
theorem dX1_transform_202 : decode cX1_transform 202 = .ok (.imul, 1) := by decide +kernel
theorem dX1_transform_203 : decode cX1_transform 203 = .ok (.iadd, 1) := by decide +kernel
theorem dX1_transform_204 : decode cX1_transform 204 = .ok (.istore 9, 2) := by decide +kernel
theorem dX1_transform_206 : decode cX1_transform 206 = .ok (.goto (-109), 3) := by decide +kernel
theorem dX1_transform_209 : decode cX1_transform 209 = .ok (.iload 6, 2) := by decide +kernel
theorem dX1_transform_211 : decode cX1_transform 211 = .ok (.iconst 2, 1) := by decide +kernel
theorem dX1_transform_212 : decode cX1_transform 212 = .ok (.imul, 1) := by decide +kernel
theorem dX1_transform_213 : decode cX1_transform 213 = .ok (.istore 6, 2) := by decide +kernel
theorem dX1_transform_215 : decode cX1_transform 215 = .ok (.goto (-141), 3) := by decide +kernel
theorem dX1_transform_218 : decode cX1_transform 218 = .ok (.return_, 1) := by decide +kernel
abbrev cX1_turned : ByteArray := prog_2_method_5_code
def yX1_turned : MethodName := ⟨RX1, "turned", "(II)I"⟩
theorem dX1_turned_0 : decode cX1_turned 0 = .ok (.iconst 0, 1) := by decide +kernel
theorem dX1_turned_1 : decode cX1_turned 1 = .ok (.istore_n 2, 1) := by decide +kernel
theorem dX1_turned_2 : decode cX1_turned 2 = .ok (.iconst 0, 1) := by decide +kernel
theorem dX1_turned_3 : decode cX1_turned 3 = .ok (.istore_n 3, 1) := by decide +kernel
theorem dX1_turned_4 : decode cX1_turned 4 = .ok (.iload_n 3, 1) := by decide +kernel
theorem dX1_turned_5 : decode cX1_turned 5 = .ok (.iload_n 1, 1) := by decide +kernel
theorem dX1_turned_6 : decode cX1_turned 6 = .ok (.if_icmp .ge 23, 3) := by decide +kernel
theorem dX1_turned_9 : decode cX1_turned 9 = .ok (.iload_n 2, 1) := by decide +kernel
theorem dX1_turned_10 : decode cX1_turned 10 = .ok (.iload_n 0, 1) := by decide +kernel
theorem dX1_turned_11 : decode cX1_turned 11 = .ok (.iload_n 3, 1) := by decide +kernel
theorem dX1_turned_12 : decode cX1_turned 12 = .ok (.ishr, 1) := by decide +kernel
theorem dX1_turned_13 : decode cX1_turned 13 = .ok (.iconst 1, 1) := by decide +kernel
theorem dX1_turned_14 : decode cX1_turned 14 = .ok (.iand, 1) := by decide +kernel
theorem dX1_turned_15 : decode cX1_turned 15 = .ok (.iload_n 1, 1) := by decide +kernel
theorem dX1_turned_16 : decode cX1_turned 16 = .ok (.iconst 1, 1) := by decide +kernel
theorem dX1_turned_17 : decode cX1_turned 17 = .ok (.isub, 1) := by decide +kernel
theorem dX1_turned_18 : decode cX1_turned 18 = .ok (.iload_n 3, 1) := by decide +kernel
theorem dX1_turned_19 : decode cX1_turned 19 = .ok (.isub, 1) := by decide +kernel
theorem dX1_turned_20 : decode cX1_turned 20 = .ok (.ishl, 1) := by decide +kernel
theorem dX1_turned_21 : decode cX1_turned 21 = .ok (.ior, 1) := by decide +kernel
theorem dX1_turned_22 : decode cX1_turned 22 = .ok (.istore_n 2, 1) := by decide +kernel
theorem dX1_turned_23 : decode cX1_turned 23 = .ok (.iinc 3 1, 3) := by decide +kernel
theorem dX1_turned_26 : decode cX1_turned 26 = .ok (.goto (-22), 3) := by decide +kernel
theorem dX1_turned_29 : decode cX1_turned 29 = .ok (.iload_n 2, 1) := by decide +kernel
theorem dX1_turned_30 : decode cX1_turned 30 = .ok (.ireturn, 1) := by decide +kernel
abbrev cX1_inverse : ByteArray := prog_2_method_3_code
def yX1_inverse : MethodName := ⟨RX1, "inverse", "(J)J"⟩
theorem dX1_inverse_0 : decode cX1_inverse 0 = .ok (.aload_n 0, 1) := by decide +kernel
theorem dX1_inverse_1 : decode cX1_inverse 1 = .ok (.lload_n 1, 1) := by decide +kernel
theorem dX1_inverse_2 : decode cX1_inverse 2 = .ok (.aload_n 0, 1) := by decide +kernel
theorem dX1_inverse_3 : decode cX1_inverse 3 = .ok (.getfield 18, 3) := by decide +kernel
theorem dX1_inverse_6 : decode cX1_inverse 6 = .ok (.ldc2_w 22, 3) := by decide +kernel
theorem dX1_inverse_9 : decode cX1_inverse 9 = .ok (.lsub, 1) := by decide +kernel
theorem dX1_inverse_10 : decode cX1_inverse 10 = .ok (.invokevirtual 24, 3) := by decide +kernel
theorem dX1_inverse_13 : decode cX1_inverse 13 = .ok (.lreturn, 1) := by decide +kernel
abbrev cX1_at : ByteArray := prog_2_method_10_code
def yX1_at : MethodName := ⟨RX1, "at", "(I)J"⟩
theorem dX1_at_0 : decode cX1_at 0 = .ok (.aload_n 0, 1) := by decide +kernel
theorem dX1_at_1 : decode cX1_at 1 = .ok (.getfield 9, 3) := by decide +kernel
theorem dX1_at_4 : decode cX1_at 4 = .ok (.iload_n 1, 1) := by decide +kernel
theorem dX1_at_5 : decode cX1_at 5 = .ok (.laload, 1) := by decide +kernel
theorem dX1_at_6 : decode cX1_at 6 = .ok (.lreturn, 1) := by decide +kernel
theorem q9 : (Jvm.Cond.initialized "ProductDesk$Ring") ∈ lw_all := lw_g (lw_at lw_m0 2 rfl) rfl
theorem q20 : (Jvm.Cond.instantiable "ProductDesk$Ring" (3 : Nat)) ∈ lw_all := lw_g (lw_at lw_m0 13 rfl) rfl
theorem q23 : (Jvm.Cond.instanceMethod ({ cls := "ProductDesk$Ring", name := "<init>", desc := "(J)V" } : Jvm.MethodName)) ∈ lw_all := lw_g (lw_at lw_m0 16 rfl) rfl
theorem q24 : (Jvm.Cond.code ({ cls := "ProductDesk$Ring", name := "<init>", desc := "(J)V" } : Jvm.MethodName) prog_2_method_1_code (3 : Nat) (Option.none : Option Jvm.ClassFile.FieldType)) ∈ lw_all := lw_g (lw_at lw_m0 17 rfl) rfl
theorem q25 : (Jvm.Cond.methodLink "ProductDesk$Ring" (3 : Nat) ({ cls := "java/lang/Object", name := "<init>", desc := "()V" } : Jvm.MethodName)) ∈ lw_all := lw_g (lw_at lw_m0 18 rfl) rfl
theorem q26 : (Jvm.Cond.fieldLink "ProductDesk$Ring" (18 : Nat) "ProductDesk$Ring" "p" "J") ∈ lw_all := lw_g (lw_at lw_m0 19 rfl) rfl
theorem q28 : (Jvm.Cond.fieldLink "ProductDesk$Ring" (9 : Nat) "ProductDesk$Ring" "a" "[J") ∈ lw_all := lw_g (lw_at lw_m0 21 rfl) rfl
theorem q29 : (Jvm.Cond.fieldLink "ProductDesk$Ring" (15 : Nat) "ProductDesk$Ring" "b" "[J") ∈ lw_all := lw_g (lw_at lw_m0 22 rfl) rfl
theorem q30 : (Jvm.Cond.laysFinal "ProductDesk$Ring" "ProductDesk$Ring" "p" "J") ∈ lw_all := lw_g (lw_at lw_m0 23 rfl) rfl
theorem q31 : (Jvm.Cond.soleField "ProductDesk$Ring" "p") ∈ lw_all := lw_g (lw_at lw_m0 24 rfl) rfl
theorem q32 : (Jvm.Cond.laysFinal "ProductDesk$Ring" "ProductDesk$Ring" "a" "[J") ∈ lw_all := lw_g (lw_at lw_m0 25 rfl) rfl
theorem q33 : (Jvm.Cond.soleField "ProductDesk$Ring" "a") ∈ lw_all := lw_g (lw_at lw_m0 26 rfl) rfl
theorem q34 : (Jvm.Cond.laysFinal "ProductDesk$Ring" "ProductDesk$Ring" "b" "[J") ∈ lw_all := lw_g (lw_at lw_m0 27 rfl) rfl
theorem q35 : (Jvm.Cond.soleField "ProductDesk$Ring" "b") ∈ lw_all := lw_g (lw_at lw_m0 28 rfl) rfl
theorem q36 : (Jvm.Cond.superclass "ProductDesk$Ring" "java/lang/Object") ∈ lw_all := lw_g (lw_at lw_m0 29 rfl) rfl
theorem q96 : (Jvm.Cond.instanceMethod ({ cls := "ProductDesk$Ring", name := "product", desc := "([J[JIZ)V" } : Jvm.MethodName)) ∈ lw_all := lw_g (lw_at lw_m0 89 rfl) rfl
theorem q97 : (Jvm.Cond.selects "ProductDesk$Ring" ({ cls := "ProductDesk$Ring", name := "product", desc := "([J[JIZ)V" } : Jvm.MethodName) ({ cls := "ProductDesk$Ring", name := "product", desc := "([J[JIZ)V" } : Jvm.MethodName)) ∈ lw_all := lw_g (lw_at lw_m0 90 rfl) rfl
theorem q98 : (Jvm.Cond.code ({ cls := "ProductDesk$Ring", name := "product", desc := "([J[JIZ)V" } : Jvm.MethodName) prog_2_method_9_code (10 : Nat) (Option.none : Option Jvm.ClassFile.FieldType)) ∈ lw_all := lw_g (lw_at lw_m0 91 rfl) rfl
theorem q99 : (Jvm.Cond.methodLink "ProductDesk$Ring" (34 : Nat) ({ cls := "ProductDesk$Ring", name := "of", desc := "(J)J" } : Jvm.MethodName)) ∈ lw_all := lw_g (lw_at lw_m0 92 rfl) rfl
theorem q100 : (Jvm.Cond.privateMethod ({ cls := "ProductDesk$Ring", name := "of", desc := "(J)J" } : Jvm.MethodName)) ∈ lw_tbl := lw_at lw_m0 93 rfl
theorem q101 : (Jvm.Cond.instanceMethod ({ cls := "ProductDesk$Ring", name := "of", desc := "(J)J" } : Jvm.MethodName)) ∈ lw_all := lw_g (lw_at lw_m0 94 rfl) rfl
theorem q102 : (Jvm.Cond.code ({ cls := "ProductDesk$Ring", name := "of", desc := "(J)J" } : Jvm.MethodName) prog_2_method_8_code (5 : Nat) (Option.some Jvm.ClassFile.FieldType.long)) ∈ lw_all := lw_g (lw_at lw_m0 95 rfl) rfl
theorem q103 : (Jvm.Cond.methodLink "ProductDesk$Ring" (38 : Nat) ({ cls := "ProductDesk$Ring", name := "root", desc := "(I)J" } : Jvm.MethodName)) ∈ lw_all := lw_g (lw_at lw_m0 96 rfl) rfl
theorem q104 : (Jvm.Cond.instanceMethod ({ cls := "ProductDesk$Ring", name := "root", desc := "(I)J" } : Jvm.MethodName)) ∈ lw_all := lw_g (lw_at lw_m0 97 rfl) rfl
theorem q105 : (Jvm.Cond.selects "ProductDesk$Ring" ({ cls := "ProductDesk$Ring", name := "root", desc := "(I)J" } : Jvm.MethodName) ({ cls := "ProductDesk$Ring", name := "root", desc := "(I)J" } : Jvm.MethodName)) ∈ lw_all := lw_g (lw_at lw_m0 98 rfl) rfl
theorem q106 : (Jvm.Cond.code ({ cls := "ProductDesk$Ring", name := "root", desc := "(I)J" } : Jvm.MethodName) prog_2_method_4_code (2 : Nat) (Option.some Jvm.ClassFile.FieldType.long)) ∈ lw_all := lw_g (lw_at lw_m0 99 rfl) rfl
theorem q107 : (Jvm.Cond.constantLong "ProductDesk$Ring" (28 : Nat) (3 : Int64)) ∈ lw_all := lw_g (lw_at lw_m0 100 rfl) rfl
theorem q108 : (Jvm.Cond.methodLink "ProductDesk$Ring" (24 : Nat) ({ cls := "ProductDesk$Ring", name := "power", desc := "(JJ)J" } : Jvm.MethodName)) ∈ lw_all := lw_g (lw_at lw_m0 101 rfl) rfl
theorem q109 : (Jvm.Cond.instanceMethod ({ cls := "ProductDesk$Ring", name := "power", desc := "(JJ)J" } : Jvm.MethodName)) ∈ lw_all := lw_g (lw_at lw_m0 102 rfl) rfl
theorem q110 : (Jvm.Cond.selects "ProductDesk$Ring" ({ cls := "ProductDesk$Ring", name := "power", desc := "(JJ)J" } : Jvm.MethodName) ({ cls := "ProductDesk$Ring", name := "power", desc := "(JJ)J" } : Jvm.MethodName)) ∈ lw_all := lw_g (lw_at lw_m0 103 rfl) rfl
theorem q111 : (Jvm.Cond.code ({ cls := "ProductDesk$Ring", name := "power", desc := "(JJ)J" } : Jvm.MethodName) prog_2_method_2_code (11 : Nat) (Option.some Jvm.ClassFile.FieldType.long)) ∈ lw_all := lw_g (lw_at lw_m0 104 rfl) rfl
theorem q112 : (Jvm.Cond.methodLink "ProductDesk$Ring" (42 : Nat) ({ cls := "ProductDesk$Ring", name := "weigh", desc := "([JIJ)V" } : Jvm.MethodName)) ∈ lw_all := lw_g (lw_at lw_m0 105 rfl) rfl
theorem q113 : (Jvm.Cond.privateMethod ({ cls := "ProductDesk$Ring", name := "weigh", desc := "([JIJ)V" } : Jvm.MethodName)) ∈ lw_tbl := lw_at lw_m0 106 rfl
theorem q114 : (Jvm.Cond.instanceMethod ({ cls := "ProductDesk$Ring", name := "weigh", desc := "([JIJ)V" } : Jvm.MethodName)) ∈ lw_all := lw_g (lw_at lw_m0 107 rfl) rfl
theorem q115 : (Jvm.Cond.code ({ cls := "ProductDesk$Ring", name := "weigh", desc := "([JIJ)V" } : Jvm.MethodName) prog_2_method_7_code (8 : Nat) (Option.none : Option Jvm.ClassFile.FieldType)) ∈ lw_all := lw_g (lw_at lw_m0 108 rfl) rfl
theorem q116 : (Jvm.Cond.methodLink "ProductDesk$Ring" (46 : Nat) ({ cls := "ProductDesk$Ring", name := "transform", desc := "([JIJ)V" } : Jvm.MethodName)) ∈ lw_all := lw_g (lw_at lw_m0 109 rfl) rfl
theorem q117 : (Jvm.Cond.privateMethod ({ cls := "ProductDesk$Ring", name := "transform", desc := "([JIJ)V" } : Jvm.MethodName)) ∈ lw_tbl := lw_at lw_m0 110 rfl
theorem q118 : (Jvm.Cond.instanceMethod ({ cls := "ProductDesk$Ring", name := "transform", desc := "([JIJ)V" } : Jvm.MethodName)) ∈ lw_all := lw_g (lw_at lw_m0 111 rfl) rfl
theorem q119 : (Jvm.Cond.code ({ cls := "ProductDesk$Ring", name := "transform", desc := "([JIJ)V" } : Jvm.MethodName) prog_2_method_6_code (17 : Nat) (Option.none : Option Jvm.ClassFile.FieldType)) ∈ lw_all := lw_g (lw_at lw_m0 112 rfl) rfl
theorem q120 : (Jvm.Cond.methodLink "ProductDesk$Ring" (30 : Nat) ({ cls := "ProductDesk$Ring", name := "turned", desc := "(II)I" } : Jvm.MethodName)) ∈ lw_all := lw_g (lw_at lw_m0 113 rfl) rfl
theorem q121 : (Jvm.Cond.static ({ cls := "ProductDesk$Ring", name := "turned", desc := "(II)I" } : Jvm.MethodName)) ∈ lw_all := lw_g (lw_at lw_m0 114 rfl) rfl
theorem q122 : (Jvm.Cond.code ({ cls := "ProductDesk$Ring", name := "turned", desc := "(II)I" } : Jvm.MethodName) prog_2_method_5_code (4 : Nat) (Option.some Jvm.ClassFile.FieldType.int)) ∈ lw_all := lw_g (lw_at lw_m0 115 rfl) rfl
theorem q123 : (Jvm.Cond.methodLink "ProductDesk$Ring" (49 : Nat) ({ cls := "ProductDesk$Ring", name := "inverse", desc := "(J)J" } : Jvm.MethodName)) ∈ lw_all := lw_g (lw_at lw_m0 116 rfl) rfl
theorem q124 : (Jvm.Cond.instanceMethod ({ cls := "ProductDesk$Ring", name := "inverse", desc := "(J)J" } : Jvm.MethodName)) ∈ lw_all := lw_g (lw_at lw_m0 117 rfl) rfl
theorem q125 : (Jvm.Cond.selects "ProductDesk$Ring" ({ cls := "ProductDesk$Ring", name := "inverse", desc := "(J)J" } : Jvm.MethodName) ({ cls := "ProductDesk$Ring", name := "inverse", desc := "(J)J" } : Jvm.MethodName)) ∈ lw_all := lw_g (lw_at lw_m0 118 rfl) rfl
theorem q126 : (Jvm.Cond.code ({ cls := "ProductDesk$Ring", name := "inverse", desc := "(J)J" } : Jvm.MethodName) prog_2_method_3_code (3 : Nat) (Option.some Jvm.ClassFile.FieldType.long)) ∈ lw_all := lw_g (lw_at lw_m0 119 rfl) rfl
theorem q127 : (Jvm.Cond.constantLong "ProductDesk$Ring" (22 : Nat) (2 : Int64)) ∈ lw_all := lw_g (lw_at lw_m0 120 rfl) rfl
theorem q130 : (Jvm.Cond.instanceMethod ({ cls := "ProductDesk$Ring", name := "at", desc := "(I)J" } : Jvm.MethodName)) ∈ lw_all := lw_g (lw_at lw_m0 123 rfl) rfl
theorem q131 : (Jvm.Cond.selects "ProductDesk$Ring" ({ cls := "ProductDesk$Ring", name := "at", desc := "(I)J" } : Jvm.MethodName) ({ cls := "ProductDesk$Ring", name := "at", desc := "(I)J" } : Jvm.MethodName)) ∈ lw_all := lw_g (lw_at lw_m0 124 rfl) rfl
theorem q132 : (Jvm.Cond.code ({ cls := "ProductDesk$Ring", name := "at", desc := "(I)J" } : Jvm.MethodName) prog_2_method_10_code (2 : Nat) (Option.some Jvm.ClassFile.FieldType.long)) ∈ lw_all := lw_g (lw_at lw_m0 125 rfl) rfl
theorem in_X1 : ∀ w ∈ wsX10, w ∈ lw_all := lw_in wsX10 [30, 32, 34] (by decide +kernel) (by decide +kernel)
end
section
/-! ProductDeskModel -/
set_option maxRecDepth 100000
def RX2 : String := "ProductDeskModel"
def TX2 : u_T := fun k => match k with
  | 0 => ("ProductDeskModel", "a", "[I", true)
  | 1 => ("ProductDeskModel", "b", "[I", true)
  | 2 => ("ProductDeskModel", "z", "[J", true)
  | 3 => ("ProductDeskModel", "n", "I", false)
  | _ => ("ProductDeskModel", "m", "I", false)
def tyX2 : Nat → FieldType := fun k => match k with
  | 0 => .array .int
  | 1 => .array .int
  | 2 => .array .long
  | 3 => .int
  | _ => .int
abbrev wsX20 : List Cond := u_ws RX2 TX2 5
theorem nmX2 : ∀ a, a < 5 → ∀ b, b < 5 → a ≠ b → (TX2 a).2.1 ≠ (TX2 b).2.1 := by decide +kernel
theorem tyX2_ok : ∀ k, k < 5 → parseFieldDescriptor (TX2 k).2.2.1 = some (tyX2 k) := by decide +kernel
abbrev cX2_init : ByteArray := prog_4_method_1_code
def yX2_init : MethodName := ⟨RX2, "<init>", "()V"⟩
theorem dX2_init_0 : decode cX2_init 0 = .ok (.aload_n 0, 1) := by decide +kernel
theorem dX2_init_1 : decode cX2_init 1 = .ok (.invokespecial 1, 3) := by decide +kernel
theorem dX2_init_4 : decode cX2_init 4 = .ok (.aload_n 0, 1) := by decide +kernel
theorem dX2_init_5 : decode cX2_init 5 = .ok (.sipush 256, 3) := by decide +kernel
theorem dX2_init_8 : decode cX2_init 8 = .ok (.newarray .int, 2) := by decide +kernel
theorem dX2_init_10 : decode cX2_init 10 = .ok (.putfield 7, 3) := by decide +kernel
theorem dX2_init_13 : decode cX2_init 13 = .ok (.aload_n 0, 1) := by decide +kernel
theorem dX2_init_14 : decode cX2_init 14 = .ok (.sipush 256, 3) := by decide +kernel
theorem dX2_init_17 : decode cX2_init 17 = .ok (.newarray .int, 2) := by decide +kernel
theorem dX2_init_19 : decode cX2_init 19 = .ok (.putfield 13, 3) := by decide +kernel
theorem dX2_init_22 : decode cX2_init 22 = .ok (.aload_n 0, 1) := by decide +kernel
theorem dX2_init_23 : decode cX2_init 23 = .ok (.sipush 512, 3) := by decide +kernel
theorem dX2_init_26 : decode cX2_init 26 = .ok (.newarray .long, 2) := by decide +kernel
theorem dX2_init_28 : decode cX2_init 28 = .ok (.putfield 16, 3) := by decide +kernel
theorem dX2_init_31 : decode cX2_init 31 = .ok (.return_, 1) := by decide +kernel
abbrev cX2_left : ByteArray := prog_4_method_2_code
def yX2_left : MethodName := ⟨RX2, "left", "(IIII)Z"⟩
theorem dX2_left_0 : decode cX2_left 0 = .ok (.aload_n 0, 1) := by decide +kernel
theorem dX2_left_1 : decode cX2_left 1 = .ok (.getfield 20, 3) := by decide +kernel
theorem dX2_left_4 : decode cX2_left 4 = .ok (.iconst 4, 1) := by decide +kernel
theorem dX2_left_5 : decode cX2_left 5 = .ok (.iadd, 1) := by decide +kernel
theorem dX2_left_6 : decode cX2_left 6 = .ok (.sipush 256, 3) := by decide +kernel
theorem dX2_left_9 : decode cX2_left 9 = .ok (.if_icmp .le 5, 3) := by decide +kernel
theorem dX2_left_12 : decode cX2_left 12 = .ok (.iconst 0, 1) := by decide +kernel
theorem dX2_left_13 : decode cX2_left 13 = .ok (.ireturn, 1) := by decide +kernel
theorem dX2_left_14 : decode cX2_left 14 = .ok (.iconst 0, 1) := by decide +kernel
theorem dX2_left_15 : decode cX2_left 15 = .ok (.istore 5, 2) := by decide +kernel
theorem dX2_left_17 : decode cX2_left 17 = .ok (.iload 5, 2) := by decide +kernel
theorem dX2_left_19 : decode cX2_left 19 = .ok (.iconst 4, 1) := by decide +kernel
theorem dX2_left_20 : decode cX2_left 20 = .ok (.if_icmp .ge 65, 3) := by decide +kernel
theorem dX2_left_23 : decode cX2_left 23 = .ok (.aload_n 0, 1) := by decide +kernel
theorem dX2_left_24 : decode cX2_left 24 = .ok (.getfield 7, 3) := by decide +kernel
theorem dX2_left_27 : decode cX2_left 27 = .ok (.aload_n 0, 1) := by decide +kernel
theorem dX2_left_28 : decode cX2_left 28 = .ok (.getfield 20, 3) := by decide +kernel
theorem dX2_left_31 : decode cX2_left 31 = .ok (.iload 5, 2) := by decide +kernel
theorem dX2_left_33 : decode cX2_left 33 = .ok (.ifCond .ne 7, 3) := by decide +kernel
theorem dX2_left_36 : decode cX2_left 36 = .ok (.iload_n 1, 1) := by decide +kernel
theorem dX2_left_37 : decode cX2_left 37 = .ok (.goto 25, 3) := by decide +kernel
theorem dX2_left_40 : decode cX2_left 40 = .ok (.iload 5, 2) := by decide +kernel
theorem dX2_left_42 : decode cX2_left 42 = .ok (.iconst 1, 1) := by decide +kernel
theorem dX2_left_43 : decode cX2_left 43 = .ok (.if_icmp .ne 7, 3) := by decide +kernel
theorem dX2_left_46 : decode cX2_left 46 = .ok (.iload_n 2, 1) := by decide +kernel
theorem dX2_left_47 : decode cX2_left 47 = .ok (.goto 15, 3) := by decide +kernel
theorem dX2_left_50 : decode cX2_left 50 = .ok (.iload 5, 2) := by decide +kernel
theorem dX2_left_52 : decode cX2_left 52 = .ok (.iconst 2, 1) := by decide +kernel
theorem dX2_left_53 : decode cX2_left 53 = .ok (.if_icmp .ne 7, 3) := by decide +kernel
theorem dX2_left_56 : decode cX2_left 56 = .ok (.iload_n 3, 1) := by decide +kernel
theorem dX2_left_57 : decode cX2_left 57 = .ok (.goto 5, 3) := by decide +kernel
theorem dX2_left_60 : decode cX2_left 60 = .ok (.iload 4, 2) := by decide +kernel
theorem dX2_left_62 : decode cX2_left 62 = .ok (.bipush 12, 2) := by decide +kernel
theorem dX2_left_64 : decode cX2_left 64 = .ok (.ishl, 1) := by decide +kernel
theorem dX2_left_65 : decode cX2_left 65 = .ok (.bipush 12, 2) := by decide +kernel
theorem dX2_left_67 : decode cX2_left 67 = .ok (.ishr, 1) := by decide +kernel
theorem dX2_left_68 : decode cX2_left 68 = .ok (.iastore, 1) := by decide +kernel
theorem dX2_left_69 : decode cX2_left 69 = .ok (.aload_n 0, 1) := by decide +kernel
theorem dX2_left_70 : decode cX2_left 70 = .ok (.aload_n 0, 1) := by decide +kernel
theorem dX2_left_71 : decode cX2_left 71 = .ok (.getfield 20, 3) := by decide +kernel
theorem dX2_left_74 : decode cX2_left 74 = .ok (.iconst 1, 1) := by decide +kernel
theorem dX2_left_75 : decode cX2_left 75 = .ok (.iadd, 1) := by decide +kernel
theorem dX2_left_76 : decode cX2_left 76 = .ok (.putfield 20, 3) := by decide +kernel
theorem dX2_left_79 : decode cX2_left 79 = .ok (.iinc 5 1, 3) := by decide +kernel
theorem dX2_left_82 : decode cX2_left 82 = .ok (.goto (-65), 3) := by decide +kernel
theorem dX2_left_85 : decode cX2_left 85 = .ok (.iconst 1, 1) := by decide +kernel
theorem dX2_left_86 : decode cX2_left 86 = .ok (.ireturn, 1) := by decide +kernel
abbrev cX2_right : ByteArray := prog_4_method_3_code
def yX2_right : MethodName := ⟨RX2, "right", "(IIII)Z"⟩
theorem dX2_right_0 : decode cX2_right 0 = .ok (.aload_n 0, 1) := by decide +kernel
theorem dX2_right_1 : decode cX2_right 1 = .ok (.getfield 24, 3) := by decide +kernel
theorem dX2_right_4 : decode cX2_right 4 = .ok (.iconst 4, 1) := by decide +kernel
theorem dX2_right_5 : decode cX2_right 5 = .ok (.iadd, 1) := by decide +kernel
theorem dX2_right_6 : decode cX2_right 6 = .ok (.sipush 256, 3) := by decide +kernel
theorem dX2_right_9 : decode cX2_right 9 = .ok (.if_icmp .le 5, 3) := by decide +kernel
theorem dX2_right_12 : decode cX2_right 12 = .ok (.iconst 0, 1) := by decide +kernel
theorem dX2_right_13 : decode cX2_right 13 = .ok (.ireturn, 1) := by decide +kernel
theorem dX2_right_14 : decode cX2_right 14 = .ok (.iconst 0, 1) := by decide +kernel
theorem dX2_right_15 : decode cX2_right 15 = .ok (.istore 5, 2) := by decide +kernel
theorem dX2_right_17 : decode cX2_right 17 = .ok (.iload 5, 2) := by decide +kernel
theorem dX2_right_19 : decode cX2_right 19 = .ok (.iconst 4, 1) := by decide +kernel
theorem dX2_right_20 : decode cX2_right 20 = .ok (.if_icmp .ge 65, 3) := by decide +kernel
theorem dX2_right_23 : decode cX2_right 23 = .ok (.aload_n 0, 1) := by decide +kernel
theorem dX2_right_24 : decode cX2_right 24 = .ok (.getfield 13, 3) := by decide +kernel
theorem dX2_right_27 : decode cX2_right 27 = .ok (.aload_n 0, 1) := by decide +kernel
theorem dX2_right_28 : decode cX2_right 28 = .ok (.getfield 24, 3) := by decide +kernel
theorem dX2_right_31 : decode cX2_right 31 = .ok (.iload 5, 2) := by decide +kernel
theorem dX2_right_33 : decode cX2_right 33 = .ok (.ifCond .ne 7, 3) := by decide +kernel
theorem dX2_right_36 : decode cX2_right 36 = .ok (.iload_n 1, 1) := by decide +kernel
theorem dX2_right_37 : decode cX2_right 37 = .ok (.goto 25, 3) := by decide +kernel
theorem dX2_right_40 : decode cX2_right 40 = .ok (.iload 5, 2) := by decide +kernel
theorem dX2_right_42 : decode cX2_right 42 = .ok (.iconst 1, 1) := by decide +kernel
theorem dX2_right_43 : decode cX2_right 43 = .ok (.if_icmp .ne 7, 3) := by decide +kernel
theorem dX2_right_46 : decode cX2_right 46 = .ok (.iload_n 2, 1) := by decide +kernel
theorem dX2_right_47 : decode cX2_right 47 = .ok (.goto 15, 3) := by decide +kernel
theorem dX2_right_50 : decode cX2_right 50 = .ok (.iload 5, 2) := by decide +kernel
theorem dX2_right_52 : decode cX2_right 52 = .ok (.iconst 2, 1) := by decide +kernel
theorem dX2_right_53 : decode cX2_right 53 = .ok (.if_icmp .ne 7, 3) := by decide +kernel
theorem dX2_right_56 : decode cX2_right 56 = .ok (.iload_n 3, 1) := by decide +kernel
theorem dX2_right_57 : decode cX2_right 57 = .ok (.goto 5, 3) := by decide +kernel
theorem dX2_right_60 : decode cX2_right 60 = .ok (.iload 4, 2) := by decide +kernel
theorem dX2_right_62 : decode cX2_right 62 = .ok (.bipush 12, 2) := by decide +kernel
theorem dX2_right_64 : decode cX2_right 64 = .ok (.ishl, 1) := by decide +kernel
theorem dX2_right_65 : decode cX2_right 65 = .ok (.bipush 12, 2) := by decide +kernel
theorem dX2_right_67 : decode cX2_right 67 = .ok (.ishr, 1) := by decide +kernel
theorem dX2_right_68 : decode cX2_right 68 = .ok (.iastore, 1) := by decide +kernel
theorem dX2_right_69 : decode cX2_right 69 = .ok (.aload_n 0, 1) := by decide +kernel
theorem dX2_right_70 : decode cX2_right 70 = .ok (.aload_n 0, 1) := by decide +kernel
theorem dX2_right_71 : decode cX2_right 71 = .ok (.getfield 24, 3) := by decide +kernel
theorem dX2_right_74 : decode cX2_right 74 = .ok (.iconst 1, 1) := by decide +kernel
theorem dX2_right_75 : decode cX2_right 75 = .ok (.iadd, 1) := by decide +kernel
theorem dX2_right_76 : decode cX2_right 76 = .ok (.putfield 24, 3) := by decide +kernel
theorem dX2_right_79 : decode cX2_right 79 = .ok (.iinc 5 1, 3) := by decide +kernel
theorem dX2_right_82 : decode cX2_right 82 = .ok (.goto (-65), 3) := by decide +kernel
theorem dX2_right_85 : decode cX2_right 85 = .ok (.iconst 1, 1) := by decide +kernel
theorem dX2_right_86 : decode cX2_right 86 = .ok (.ireturn, 1) := by decide +kernel
abbrev cX2_wipe : ByteArray := prog_4_method_4_code
def yX2_wipe : MethodName := ⟨RX2, "wipe", "(I)V"⟩
theorem dX2_wipe_0 : decode cX2_wipe 0 = .ok (.iload_n 1, 1) := by decide +kernel
theorem dX2_wipe_1 : decode cX2_wipe 1 = .ok (.iconst 1, 1) := by decide +kernel
theorem dX2_wipe_2 : decode cX2_wipe 2 = .ok (.iand, 1) := by decide +kernel
theorem dX2_wipe_3 : decode cX2_wipe 3 = .ok (.ifCond .ne 11, 3) := by decide +kernel
theorem dX2_wipe_6 : decode cX2_wipe 6 = .ok (.aload_n 0, 1) := by decide +kernel
theorem dX2_wipe_7 : decode cX2_wipe 7 = .ok (.iconst 0, 1) := by decide +kernel
theorem dX2_wipe_8 : decode cX2_wipe 8 = .ok (.putfield 20, 3) := by decide +kernel
theorem dX2_wipe_11 : decode cX2_wipe 11 = .ok (.goto 8, 3) := by decide +kernel
theorem dX2_wipe_14 : decode cX2_wipe 14 = .ok (.aload_n 0, 1) := by decide +kernel
theorem dX2_wipe_15 : decode cX2_wipe 15 = .ok (.iconst 0, 1) := by decide +kernel
theorem dX2_wipe_16 : decode cX2_wipe 16 = .ok (.putfield 24, 3) := by decide +kernel
theorem dX2_wipe_19 : decode cX2_wipe 19 = .ok (.return_, 1) := by decide +kernel
abbrev cX2_product : ByteArray := prog_4_method_6_code
def yX2_product : MethodName := ⟨RX2, "product", "()V"⟩
theorem dX2_product_0 : decode cX2_product 0 = .ok (.aload_n 0, 1) := by decide +kernel
theorem dX2_product_1 : decode cX2_product 1 = .ok (.invokevirtual 27, 3) := by decide +kernel
theorem dX2_product_4 : decode cX2_product 4 = .ok (.iconst 0, 1) := by decide +kernel
theorem dX2_product_5 : decode cX2_product 5 = .ok (.istore_n 1, 1) := by decide +kernel
theorem dX2_product_6 : decode cX2_product 6 = .ok (.iload_n 1, 1) := by decide +kernel
theorem dX2_product_7 : decode cX2_product 7 = .ok (.aload_n 0, 1) := by decide +kernel
theorem dX2_product_8 : decode cX2_product 8 = .ok (.getfield 20, 3) := by decide +kernel
theorem dX2_product_11 : decode cX2_product 11 = .ok (.if_icmp .ge 57, 3) := by decide +kernel
theorem dX2_product_14 : decode cX2_product 14 = .ok (.iconst 0, 1) := by decide +kernel
theorem dX2_product_15 : decode cX2_product 15 = .ok (.istore_n 2, 1) := by decide +kernel
theorem dX2_product_16 : decode cX2_product 16 = .ok (.iload_n 2, 1) := by decide +kernel
theorem dX2_product_17 : decode cX2_product 17 = .ok (.aload_n 0, 1) := by decide +kernel
theorem dX2_product_18 : decode cX2_product 18 = .ok (.getfield 24, 3) := by decide +kernel
theorem dX2_product_21 : decode cX2_product 21 = .ok (.if_icmp .ge 41, 3) := by decide +kernel
theorem dX2_product_24 : decode cX2_product 24 = .ok (.aload_n 0, 1) := by decide +kernel
theorem dX2_product_25 : decode cX2_product 25 = .ok (.getfield 16, 3) := by decide +kernel
theorem dX2_product_28 : decode cX2_product 28 = .ok (.iload_n 1, 1) := by decide +kernel
theorem dX2_product_29 : decode cX2_product 29 = .ok (.iload_n 2, 1) := by decide +kernel
theorem dX2_product_30 : decode cX2_product 30 = .ok (.iadd, 1) := by decide +kernel
theorem dX2_product_31 : decode cX2_product 31 = .ok (.aload_n 0, 1) := by decide +kernel
theorem dX2_product_32 : decode cX2_product 32 = .ok (.getfield 16, 3) := by decide +kernel
theorem dX2_product_35 : decode cX2_product 35 = .ok (.iload_n 1, 1) := by decide +kernel
theorem dX2_product_36 : decode cX2_product 36 = .ok (.iload_n 2, 1) := by decide +kernel
theorem dX2_product_37 : decode cX2_product 37 = .ok (.iadd, 1) := by decide +kernel
theorem dX2_product_38 : decode cX2_product 38 = .ok (.laload, 1) := by decide +kernel
theorem dX2_product_39 : decode cX2_product 39 = .ok (.aload_n 0, 1) := by decide +kernel
theorem dX2_product_40 : decode cX2_product 40 = .ok (.getfield 7, 3) := by decide +kernel
theorem dX2_product_43 : decode cX2_product 43 = .ok (.iload_n 1, 1) := by decide +kernel
theorem dX2_product_44 : decode cX2_product 44 = .ok (.iaload, 1) := by decide +kernel
theorem dX2_product_45 : decode cX2_product 45 = .ok (.i2l, 1) := by decide +kernel
theorem dX2_product_46 : decode cX2_product 46 = .ok (.aload_n 0, 1) := by decide +kernel
theorem dX2_product_47 : decode cX2_product 47 = .ok (.getfield 13, 3) := by decide +kernel
theorem dX2_product_50 : decode cX2_product 50 = .ok (.iload_n 2, 1) := by decide +kernel
theorem dX2_product_51 : decode cX2_product 51 = .ok (.iaload, 1) := by decide +kernel
theorem dX2_product_52 : decode cX2_product 52 = .ok (.i2l, 1) := by decide +kernel
theorem dX2_product_53 : decode cX2_product 53 = .ok (.lmul, 1) := by decide +kernel
theorem dX2_product_54 : decode cX2_product 54 = .ok (.ladd, 1) := by decide +kernel
theorem dX2_product_55 : decode cX2_product 55 = .ok (.lastore, 1) := by decide +kernel
theorem dX2_product_56 : decode cX2_product 56 = .ok (.iinc 2 1, 3) := by decide +kernel
theorem dX2_product_59 : decode cX2_product 59 = .ok (.goto (-43), 3) := by decide +kernel
theorem dX2_product_62 : decode cX2_product 62 = .ok (.iinc 1 1, 3) := by decide +kernel
theorem dX2_product_65 : decode cX2_product 65 = .ok (.goto (-59), 3) := by decide +kernel
theorem dX2_product_68 : decode cX2_product 68 = .ok (.return_, 1) := by decide +kernel
abbrev cX2_clear : ByteArray := prog_4_method_5_code
def yX2_clear : MethodName := ⟨RX2, "clear", "()V"⟩
theorem dX2_clear_0 : decode cX2_clear 0 = .ok (.iconst 0, 1) := by decide +kernel
theorem dX2_clear_1 : decode cX2_clear 1 = .ok (.istore_n 1, 1) := by decide +kernel
theorem dX2_clear_2 : decode cX2_clear 2 = .ok (.iload_n 1, 1) := by decide +kernel
theorem dX2_clear_3 : decode cX2_clear 3 = .ok (.sipush 512, 3) := by decide +kernel
theorem dX2_clear_6 : decode cX2_clear 6 = .ok (.if_icmp .ge 16, 3) := by decide +kernel
theorem dX2_clear_9 : decode cX2_clear 9 = .ok (.aload_n 0, 1) := by decide +kernel
theorem dX2_clear_10 : decode cX2_clear 10 = .ok (.getfield 16, 3) := by decide +kernel
theorem dX2_clear_13 : decode cX2_clear 13 = .ok (.iload_n 1, 1) := by decide +kernel
theorem dX2_clear_14 : decode cX2_clear 14 = .ok (.lconst 0, 1) := by decide +kernel
theorem dX2_clear_15 : decode cX2_clear 15 = .ok (.lastore, 1) := by decide +kernel
theorem dX2_clear_16 : decode cX2_clear 16 = .ok (.iinc 1 1, 3) := by decide +kernel
theorem dX2_clear_19 : decode cX2_clear 19 = .ok (.goto (-17), 3) := by decide +kernel
theorem dX2_clear_22 : decode cX2_clear 22 = .ok (.return_, 1) := by decide +kernel
abbrev cX2_circle : ByteArray := prog_4_method_7_code
def yX2_circle : MethodName := ⟨RX2, "circle", "(I)V"⟩
theorem dX2_circle_0 : decode cX2_circle 0 = .ok (.iconst 1, 1) := by decide +kernel
theorem dX2_circle_1 : decode cX2_circle 1 = .ok (.iload_n 1, 1) := by decide +kernel
theorem dX2_circle_2 : decode cX2_circle 2 = .ok (.bipush 7, 2) := by decide +kernel
theorem dX2_circle_4 : decode cX2_circle 4 = .ok (.iand, 1) := by decide +kernel
theorem dX2_circle_5 : decode cX2_circle 5 = .ok (.ishl, 1) := by decide +kernel
theorem dX2_circle_6 : decode cX2_circle 6 = .ok (.istore_n 2, 1) := by decide +kernel
theorem dX2_circle_7 : decode cX2_circle 7 = .ok (.aload_n 0, 1) := by decide +kernel
theorem dX2_circle_8 : decode cX2_circle 8 = .ok (.invokevirtual 27, 3) := by decide +kernel
theorem dX2_circle_11 : decode cX2_circle 11 = .ok (.iconst 0, 1) := by decide +kernel
theorem dX2_circle_12 : decode cX2_circle 12 = .ok (.istore_n 3, 1) := by decide +kernel
theorem dX2_circle_13 : decode cX2_circle 13 = .ok (.iload_n 3, 1) := by decide +kernel
theorem dX2_circle_14 : decode cX2_circle 14 = .ok (.aload_n 0, 1) := by decide +kernel
theorem dX2_circle_15 : decode cX2_circle 15 = .ok (.getfield 20, 3) := by decide +kernel
theorem dX2_circle_18 : decode cX2_circle 18 = .ok (.if_icmp .ge 66, 3) := by decide +kernel
theorem dX2_circle_21 : decode cX2_circle 21 = .ok (.iconst 0, 1) := by decide +kernel
theorem dX2_circle_22 : decode cX2_circle 22 = .ok (.istore 4, 2) := by decide +kernel
theorem dX2_circle_24 : decode cX2_circle 24 = .ok (.iload 4, 2) := by decide +kernel
theorem dX2_circle_26 : decode cX2_circle 26 = .ok (.aload_n 0, 1) := by decide +kernel
theorem dX2_circle_27 : decode cX2_circle 27 = .ok (.getfield 24, 3) := by decide +kernel
theorem dX2_circle_30 : decode cX2_circle 30 = .ok (.if_icmp .ge 48, 3) := by decide +kernel
theorem dX2_circle_33 : decode cX2_circle 33 = .ok (.aload_n 0, 1) := by decide +kernel
theorem dX2_circle_34 : decode cX2_circle 34 = .ok (.getfield 16, 3) := by decide +kernel
theorem dX2_circle_37 : decode cX2_circle 37 = .ok (.iload_n 3, 1) := by decide +kernel
theorem dX2_circle_38 : decode cX2_circle 38 = .ok (.iload 4, 2) := by decide +kernel
theorem dX2_circle_40 : decode cX2_circle 40 = .ok (.iadd, 1) := by decide +kernel
theorem dX2_circle_41 : decode cX2_circle 41 = .ok (.iload_n 2, 1) := by decide +kernel
theorem dX2_circle_42 : decode cX2_circle 42 = .ok (.irem, 1) := by decide +kernel
theorem dX2_circle_43 : decode cX2_circle 43 = .ok (.aload_n 0, 1) := by decide +kernel
theorem dX2_circle_44 : decode cX2_circle 44 = .ok (.getfield 16, 3) := by decide +kernel
theorem dX2_circle_47 : decode cX2_circle 47 = .ok (.iload_n 3, 1) := by decide +kernel
theorem dX2_circle_48 : decode cX2_circle 48 = .ok (.iload 4, 2) := by decide +kernel
theorem dX2_circle_50 : decode cX2_circle 50 = .ok (.iadd, 1) := by decide +kernel
theorem dX2_circle_51 : decode cX2_circle 51 = .ok (.iload_n 2, 1) := by decide +kernel
theorem dX2_circle_52 : decode cX2_circle 52 = .ok (.irem, 1) := by decide +kernel
theorem dX2_circle_53 : decode cX2_circle 53 = .ok (.laload, 1) := by decide +kernel
theorem dX2_circle_54 : decode cX2_circle 54 = .ok (.aload_n 0, 1) := by decide +kernel
theorem dX2_circle_55 : decode cX2_circle 55 = .ok (.getfield 7, 3) := by decide +kernel
theorem dX2_circle_58 : decode cX2_circle 58 = .ok (.iload_n 3, 1) := by decide +kernel
theorem dX2_circle_59 : decode cX2_circle 59 = .ok (.iaload, 1) := by decide +kernel
theorem dX2_circle_60 : decode cX2_circle 60 = .ok (.i2l, 1) := by decide +kernel
theorem dX2_circle_61 : decode cX2_circle 61 = .ok (.aload_n 0, 1) := by decide +kernel
theorem dX2_circle_62 : decode cX2_circle 62 = .ok (.getfield 13, 3) := by decide +kernel
theorem dX2_circle_65 : decode cX2_circle 65 = .ok (.iload 4, 2) := by decide +kernel
theorem dX2_circle_67 : decode cX2_circle 67 = .ok (.iaload, 1) := by decide +kernel
theorem dX2_circle_68 : decode cX2_circle 68 = .ok (.i2l, 1) := by decide +kernel
theorem dX2_circle_69 : decode cX2_circle 69 = .ok (.lmul, 1) := by decide +kernel
theorem dX2_circle_70 : decode cX2_circle 70 = .ok (.ladd, 1) := by decide +kernel
theorem dX2_circle_71 : decode cX2_circle 71 = .ok (.lastore, 1) := by decide +kernel
theorem dX2_circle_72 : decode cX2_circle 72 = .ok (.iinc 4 1, 3) := by decide +kernel
theorem dX2_circle_75 : decode cX2_circle 75 = .ok (.goto (-51), 3) := by decide +kernel
theorem dX2_circle_78 : decode cX2_circle 78 = .ok (.iinc 3 1, 3) := by decide +kernel
theorem dX2_circle_81 : decode cX2_circle 81 = .ok (.goto (-68), 3) := by decide +kernel
theorem dX2_circle_84 : decode cX2_circle 84 = .ok (.return_, 1) := by decide +kernel
abbrev cX2_twisted : ByteArray := prog_4_method_8_code
def yX2_twisted : MethodName := ⟨RX2, "twisted", "(I)V"⟩
theorem dX2_twisted_0 : decode cX2_twisted 0 = .ok (.iconst 1, 1) := by decide +kernel
theorem dX2_twisted_1 : decode cX2_twisted 1 = .ok (.iload_n 1, 1) := by decide +kernel
theorem dX2_twisted_2 : decode cX2_twisted 2 = .ok (.bipush 7, 2) := by decide +kernel
theorem dX2_twisted_4 : decode cX2_twisted 4 = .ok (.iand, 1) := by decide +kernel
theorem dX2_twisted_5 : decode cX2_twisted 5 = .ok (.ishl, 1) := by decide +kernel
theorem dX2_twisted_6 : decode cX2_twisted 6 = .ok (.istore_n 2, 1) := by decide +kernel
theorem dX2_twisted_7 : decode cX2_twisted 7 = .ok (.aload_n 0, 1) := by decide +kernel
theorem dX2_twisted_8 : decode cX2_twisted 8 = .ok (.invokevirtual 27, 3) := by decide +kernel
theorem dX2_twisted_11 : decode cX2_twisted 11 = .ok (.iconst 0, 1) := by decide +kernel
theorem dX2_twisted_12 : decode cX2_twisted 12 = .ok (.istore_n 3, 1) := by decide +kernel
theorem dX2_twisted_13 : decode cX2_twisted 13 = .ok (.iload_n 3, 1) := by decide +kernel
theorem dX2_twisted_14 : decode cX2_twisted 14 = .ok (.aload_n 0, 1) := by decide +kernel
theorem dX2_twisted_15 : decode cX2_twisted 15 = .ok (.getfield 20, 3) := by decide +kernel
theorem dX2_twisted_18 : decode cX2_twisted 18 = .ok (.if_icmp .ge 84, 3) := by decide +kernel
theorem dX2_twisted_21 : decode cX2_twisted 21 = .ok (.iconst 0, 1) := by decide +kernel
theorem dX2_twisted_22 : decode cX2_twisted 22 = .ok (.istore 4, 2) := by decide +kernel
theorem dX2_twisted_24 : decode cX2_twisted 24 = .ok (.iload 4, 2) := by decide +kernel
theorem dX2_twisted_26 : decode cX2_twisted 26 = .ok (.aload_n 0, 1) := by decide +kernel
theorem dX2_twisted_27 : decode cX2_twisted 27 = .ok (.getfield 24, 3) := by decide +kernel
theorem dX2_twisted_30 : decode cX2_twisted 30 = .ok (.if_icmp .ge 66, 3) := by decide +kernel
theorem dX2_twisted_33 : decode cX2_twisted 33 = .ok (.iload_n 3, 1) := by decide +kernel
theorem dX2_twisted_34 : decode cX2_twisted 34 = .ok (.iload 4, 2) := by decide +kernel
theorem dX2_twisted_36 : decode cX2_twisted 36 = .ok (.iadd, 1) := by decide +kernel
theorem dX2_twisted_37 : decode cX2_twisted 37 = .ok (.istore 5, 2) := by decide +kernel
theorem dX2_twisted_39 : decode cX2_twisted 39 = .ok (.aload_n 0, 1) := by decide +kernel
theorem dX2_twisted_40 : decode cX2_twisted 40 = .ok (.getfield 16, 3) := by decide +kernel
theorem dX2_twisted_43 : decode cX2_twisted 43 = .ok (.iload 5, 2) := by decide +kernel
theorem dX2_twisted_45 : decode cX2_twisted 45 = .ok (.iload_n 2, 1) := by decide +kernel
theorem dX2_twisted_46 : decode cX2_twisted 46 = .ok (.irem, 1) := by decide +kernel
theorem dX2_twisted_47 : decode cX2_twisted 47 = .ok (.aload_n 0, 1) := by decide +kernel
theorem dX2_twisted_48 : decode cX2_twisted 48 = .ok (.getfield 16, 3) := by decide +kernel
theorem dX2_twisted_51 : decode cX2_twisted 51 = .ok (.iload 5, 2) := by decide +kernel
theorem dX2_twisted_53 : decode cX2_twisted 53 = .ok (.iload_n 2, 1) := by decide +kernel
theorem dX2_twisted_54 : decode cX2_twisted 54 = .ok (.irem, 1) := by decide +kernel
theorem dX2_twisted_55 : decode cX2_twisted 55 = .ok (.laload, 1) := by decide +kernel
theorem dX2_twisted_56 : decode cX2_twisted 56 = .ok (.iload 5, 2) := by decide +kernel
theorem dX2_twisted_58 : decode cX2_twisted 58 = .ok (.iload_n 2, 1) := by decide +kernel
theorem dX2_twisted_59 : decode cX2_twisted 59 = .ok (.idiv, 1) := by decide +kernel
theorem dX2_twisted_60 : decode cX2_twisted 60 = .ok (.iconst 1, 1) := by decide +kernel
theorem dX2_twisted_61 : decode cX2_twisted 61 = .ok (.iand, 1) := by decide +kernel
theorem dX2_twisted_62 : decode cX2_twisted 62 = .ok (.ifCond .ne 7, 3) := by decide +kernel
theorem dX2_twisted_65 : decode cX2_twisted 65 = .ok (.iconst 1, 1) := by decide +kernel
theorem dX2_twisted_66 : decode cX2_twisted 66 = .ok (.goto 4, 3) := by decide +kernel
theorem dX2_twisted_69 : decode cX2_twisted 69 = .ok (.iconst (-1), 1) := by decide +kernel
theorem dX2_twisted_70 : decode cX2_twisted 70 = .ok (.i2l, 1) := by decide +kernel
theorem dX2_twisted_71 : decode cX2_twisted 71 = .ok (.aload_n 0, 1) := by decide +kernel
theorem dX2_twisted_72 : decode cX2_twisted 72 = .ok (.getfield 7, 3) := by decide +kernel
theorem dX2_twisted_75 : decode cX2_twisted 75 = .ok (.iload_n 3, 1) := by decide +kernel
theorem dX2_twisted_76 : decode cX2_twisted 76 = .ok (.iaload, 1) := by decide +kernel
theorem dX2_twisted_77 : decode cX2_twisted 77 = .ok (.i2l, 1) := by decide +kernel
theorem dX2_twisted_78 : decode cX2_twisted 78 = .ok (.lmul, 1) := by decide +kernel
theorem dX2_twisted_79 : decode cX2_twisted 79 = .ok (.aload_n 0, 1) := by decide +kernel
theorem dX2_twisted_80 : decode cX2_twisted 80 = .ok (.getfield 13, 3) := by decide +kernel
theorem dX2_twisted_83 : decode cX2_twisted 83 = .ok (.iload 4, 2) := by decide +kernel
theorem dX2_twisted_85 : decode cX2_twisted 85 = .ok (.iaload, 1) := by decide +kernel
theorem dX2_twisted_86 : decode cX2_twisted 86 = .ok (.i2l, 1) := by decide +kernel
theorem dX2_twisted_87 : decode cX2_twisted 87 = .ok (.lmul, 1) := by decide +kernel
theorem dX2_twisted_88 : decode cX2_twisted 88 = .ok (.ladd, 1) := by decide +kernel
theorem dX2_twisted_89 : decode cX2_twisted 89 = .ok (.lastore, 1) := by decide +kernel
theorem dX2_twisted_90 : decode cX2_twisted 90 = .ok (.iinc 4 1, 3) := by decide +kernel
theorem dX2_twisted_93 : decode cX2_twisted 93 = .ok (.goto (-69), 3) := by decide +kernel
theorem dX2_twisted_96 : decode cX2_twisted 96 = .ok (.iinc 3 1, 3) := by decide +kernel
theorem dX2_twisted_99 : decode cX2_twisted 99 = .ok (.goto (-86), 3) := by decide +kernel
theorem dX2_twisted_102 : decode cX2_twisted 102 = .ok (.return_, 1) := by decide +kernel
abbrev cX2_likeness : ByteArray := prog_4_method_9_code
def yX2_likeness : MethodName := ⟨RX2, "likeness", "()V"⟩
theorem dX2_likeness_0 : decode cX2_likeness 0 = .ok (.aload_n 0, 1) := by decide +kernel
theorem dX2_likeness_1 : decode cX2_likeness 1 = .ok (.invokevirtual 27, 3) := by decide +kernel
theorem dX2_likeness_4 : decode cX2_likeness 4 = .ok (.iconst 0, 1) := by decide +kernel
theorem dX2_likeness_5 : decode cX2_likeness 5 = .ok (.istore_n 1, 1) := by decide +kernel
theorem dX2_likeness_6 : decode cX2_likeness 6 = .ok (.iload_n 1, 1) := by decide +kernel
theorem dX2_likeness_7 : decode cX2_likeness 7 = .ok (.aload_n 0, 1) := by decide +kernel
theorem dX2_likeness_8 : decode cX2_likeness 8 = .ok (.getfield 20, 3) := by decide +kernel
theorem dX2_likeness_11 : decode cX2_likeness 11 = .ok (.if_icmp .ge 65, 3) := by decide +kernel
theorem dX2_likeness_14 : decode cX2_likeness 14 = .ok (.iconst 0, 1) := by decide +kernel
theorem dX2_likeness_15 : decode cX2_likeness 15 = .ok (.istore_n 2, 1) := by decide +kernel
theorem dX2_likeness_16 : decode cX2_likeness 16 = .ok (.iload_n 2, 1) := by decide +kernel
theorem dX2_likeness_17 : decode cX2_likeness 17 = .ok (.aload_n 0, 1) := by decide +kernel
theorem dX2_likeness_18 : decode cX2_likeness 18 = .ok (.getfield 24, 3) := by decide +kernel
theorem dX2_likeness_21 : decode cX2_likeness 21 = .ok (.if_icmp .ge 49, 3) := by decide +kernel
theorem dX2_likeness_24 : decode cX2_likeness 24 = .ok (.aload_n 0, 1) := by decide +kernel
theorem dX2_likeness_25 : decode cX2_likeness 25 = .ok (.getfield 16, 3) := by decide +kernel
theorem dX2_likeness_28 : decode cX2_likeness 28 = .ok (.iload_n 1, 1) := by decide +kernel
theorem dX2_likeness_29 : decode cX2_likeness 29 = .ok (.iload_n 2, 1) := by decide +kernel
theorem dX2_likeness_30 : decode cX2_likeness 30 = .ok (.isub, 1) := by decide +kernel
theorem dX2_likeness_31 : decode cX2_likeness 31 = .ok (.sipush 255, 3) := by decide +kernel
theorem dX2_likeness_34 : decode cX2_likeness 34 = .ok (.iadd, 1) := by decide +kernel
theorem dX2_likeness_35 : decode cX2_likeness 35 = .ok (.aload_n 0, 1) := by decide +kernel
theorem dX2_likeness_36 : decode cX2_likeness 36 = .ok (.getfield 16, 3) := by decide +kernel
theorem dX2_likeness_39 : decode cX2_likeness 39 = .ok (.iload_n 1, 1) := by decide +kernel
theorem dX2_likeness_40 : decode cX2_likeness 40 = .ok (.iload_n 2, 1) := by decide +kernel
theorem dX2_likeness_41 : decode cX2_likeness 41 = .ok (.isub, 1) := by decide +kernel
theorem dX2_likeness_42 : decode cX2_likeness 42 = .ok (.sipush 255, 3) := by decide +kernel
theorem dX2_likeness_45 : decode cX2_likeness 45 = .ok (.iadd, 1) := by decide +kernel
theorem dX2_likeness_46 : decode cX2_likeness 46 = .ok (.laload, 1) := by decide +kernel
theorem dX2_likeness_47 : decode cX2_likeness 47 = .ok (.aload_n 0, 1) := by decide +kernel
theorem dX2_likeness_48 : decode cX2_likeness 48 = .ok (.getfield 7, 3) := by decide +kernel
theorem dX2_likeness_51 : decode cX2_likeness 51 = .ok (.iload_n 1, 1) := by decide +kernel
theorem dX2_likeness_52 : decode cX2_likeness 52 = .ok (.iaload, 1) := by decide +kernel
theorem dX2_likeness_53 : decode cX2_likeness 53 = .ok (.i2l, 1) := by decide +kernel
theorem dX2_likeness_54 : decode cX2_likeness 54 = .ok (.aload_n 0, 1) := by decide +kernel
theorem dX2_likeness_55 : decode cX2_likeness 55 = .ok (.getfield 13, 3) := by decide +kernel
theorem dX2_likeness_58 : decode cX2_likeness 58 = .ok (.iload_n 2, 1) := by decide +kernel
theorem dX2_likeness_59 : decode cX2_likeness 59 = .ok (.iaload, 1) := by decide +kernel
theorem dX2_likeness_60 : decode cX2_likeness 60 = .ok (.i2l, 1) := by decide +kernel
theorem dX2_likeness_61 : decode cX2_likeness 61 = .ok (.lmul, 1) := by decide +kernel
theorem dX2_likeness_62 : decode cX2_likeness 62 = .ok (.ladd, 1) := by decide +kernel
theorem dX2_likeness_63 : decode cX2_likeness 63 = .ok (.lastore, 1) := by decide +kernel
theorem dX2_likeness_64 : decode cX2_likeness 64 = .ok (.iinc 2 1, 3) := by decide +kernel
theorem dX2_likeness_67 : decode cX2_likeness 67 = .ok (.goto (-51), 3) := by decide +kernel
theorem dX2_likeness_70 : decode cX2_likeness 70 = .ok (.iinc 1 1, 3) := by decide +kernel
theorem dX2_likeness_73 : decode cX2_likeness 73 = .ok (.goto (-67), 3) := by decide +kernel
theorem dX2_likeness_76 : decode cX2_likeness 76 = .ok (.return_, 1) := by decide +kernel
abbrev cX2_at : ByteArray := prog_4_method_10_code
def yX2_at : MethodName := ⟨RX2, "at", "(I)J"⟩
theorem dX2_at_0 : decode cX2_at 0 = .ok (.aload_n 0, 1) := by decide +kernel
theorem dX2_at_1 : decode cX2_at 1 = .ok (.getfield 16, 3) := by decide +kernel
theorem dX2_at_4 : decode cX2_at 4 = .ok (.iload_n 1, 1) := by decide +kernel
theorem dX2_at_5 : decode cX2_at 5 = .ok (.sipush 511, 3) := by decide +kernel
theorem dX2_at_8 : decode cX2_at 8 = .ok (.iand, 1) := by decide +kernel
theorem dX2_at_9 : decode cX2_at 9 = .ok (.laload, 1) := by decide +kernel
theorem dX2_at_10 : decode cX2_at 10 = .ok (.lreturn, 1) := by decide +kernel
theorem q10 : (Jvm.Cond.initialized "ProductDeskModel") ∈ lw_all := lw_g (lw_at lw_m0 3 rfl) rfl
theorem q155 : (Jvm.Cond.instantiable "ProductDeskModel" (5 : Nat)) ∈ lw_all := lw_g (lw_at lw_m0 148 rfl) rfl
theorem q157 : (Jvm.Cond.instanceMethod ({ cls := "ProductDeskModel", name := "<init>", desc := "()V" } : Jvm.MethodName)) ∈ lw_all := lw_g (lw_at lw_m0 150 rfl) rfl
theorem q158 : (Jvm.Cond.code ({ cls := "ProductDeskModel", name := "<init>", desc := "()V" } : Jvm.MethodName) prog_4_method_1_code (1 : Nat) (Option.none : Option Jvm.ClassFile.FieldType)) ∈ lw_all := lw_g (lw_at lw_m0 151 rfl) rfl
theorem q159 : (Jvm.Cond.methodLink "ProductDeskModel" (1 : Nat) ({ cls := "java/lang/Object", name := "<init>", desc := "()V" } : Jvm.MethodName)) ∈ lw_all := lw_g (lw_at lw_m0 152 rfl) rfl
theorem q160 : (Jvm.Cond.fieldLink "ProductDeskModel" (7 : Nat) "ProductDeskModel" "a" "[I") ∈ lw_all := lw_g (lw_at lw_m0 153 rfl) rfl
theorem q161 : (Jvm.Cond.fieldLink "ProductDeskModel" (13 : Nat) "ProductDeskModel" "b" "[I") ∈ lw_all := lw_g (lw_at lw_m0 154 rfl) rfl
theorem q162 : (Jvm.Cond.fieldLink "ProductDeskModel" (16 : Nat) "ProductDeskModel" "z" "[J") ∈ lw_all := lw_g (lw_at lw_m0 155 rfl) rfl
theorem q163 : (Jvm.Cond.fieldLink "ProductDeskModel" (20 : Nat) "ProductDeskModel" "n" "I") ∈ lw_all := lw_g (lw_at lw_m0 156 rfl) rfl
theorem q164 : (Jvm.Cond.fieldLink "ProductDeskModel" (24 : Nat) "ProductDeskModel" "m" "I") ∈ lw_all := lw_g (lw_at lw_m0 157 rfl) rfl
theorem q165 : (Jvm.Cond.laysFinal "ProductDeskModel" "ProductDeskModel" "a" "[I") ∈ lw_all := lw_g (lw_at lw_m0 158 rfl) rfl
theorem q166 : (Jvm.Cond.soleField "ProductDeskModel" "a") ∈ lw_all := lw_g (lw_at lw_m0 159 rfl) rfl
theorem q167 : (Jvm.Cond.laysFinal "ProductDeskModel" "ProductDeskModel" "b" "[I") ∈ lw_all := lw_g (lw_at lw_m0 160 rfl) rfl
theorem q168 : (Jvm.Cond.soleField "ProductDeskModel" "b") ∈ lw_all := lw_g (lw_at lw_m0 161 rfl) rfl
theorem q169 : (Jvm.Cond.laysFinal "ProductDeskModel" "ProductDeskModel" "z" "[J") ∈ lw_all := lw_g (lw_at lw_m0 162 rfl) rfl
theorem q170 : (Jvm.Cond.soleField "ProductDeskModel" "z") ∈ lw_all := lw_g (lw_at lw_m0 163 rfl) rfl
theorem q171 : (Jvm.Cond.lays "ProductDeskModel" "ProductDeskModel" "n" "I") ∈ lw_all := lw_g (lw_at lw_m0 164 rfl) rfl
theorem q172 : (Jvm.Cond.soleField "ProductDeskModel" "n") ∈ lw_all := lw_g (lw_at lw_m0 165 rfl) rfl
theorem q173 : (Jvm.Cond.lays "ProductDeskModel" "ProductDeskModel" "m" "I") ∈ lw_all := lw_g (lw_at lw_m0 166 rfl) rfl
theorem q174 : (Jvm.Cond.soleField "ProductDeskModel" "m") ∈ lw_all := lw_g (lw_at lw_m0 167 rfl) rfl
theorem q175 : (Jvm.Cond.superclass "ProductDeskModel" "java/lang/Object") ∈ lw_all := lw_g (lw_at lw_m0 168 rfl) rfl
theorem q177 : (Jvm.Cond.instanceMethod ({ cls := "ProductDeskModel", name := "left", desc := "(IIII)Z" } : Jvm.MethodName)) ∈ lw_all := lw_g (lw_at lw_m0 170 rfl) rfl
theorem q178 : (Jvm.Cond.selects "ProductDeskModel" ({ cls := "ProductDeskModel", name := "left", desc := "(IIII)Z" } : Jvm.MethodName) ({ cls := "ProductDeskModel", name := "left", desc := "(IIII)Z" } : Jvm.MethodName)) ∈ lw_all := lw_g (lw_at lw_m0 171 rfl) rfl
theorem q179 : (Jvm.Cond.code ({ cls := "ProductDeskModel", name := "left", desc := "(IIII)Z" } : Jvm.MethodName) prog_4_method_2_code (6 : Nat) (Option.some Jvm.ClassFile.FieldType.boolean)) ∈ lw_all := lw_g (lw_at lw_m0 172 rfl) rfl
theorem q181 : (Jvm.Cond.instanceMethod ({ cls := "ProductDeskModel", name := "right", desc := "(IIII)Z" } : Jvm.MethodName)) ∈ lw_all := lw_g (lw_at lw_m0 174 rfl) rfl
theorem q182 : (Jvm.Cond.selects "ProductDeskModel" ({ cls := "ProductDeskModel", name := "right", desc := "(IIII)Z" } : Jvm.MethodName) ({ cls := "ProductDeskModel", name := "right", desc := "(IIII)Z" } : Jvm.MethodName)) ∈ lw_all := lw_g (lw_at lw_m0 175 rfl) rfl
theorem q183 : (Jvm.Cond.code ({ cls := "ProductDeskModel", name := "right", desc := "(IIII)Z" } : Jvm.MethodName) prog_4_method_3_code (6 : Nat) (Option.some Jvm.ClassFile.FieldType.boolean)) ∈ lw_all := lw_g (lw_at lw_m0 176 rfl) rfl
theorem q185 : (Jvm.Cond.instanceMethod ({ cls := "ProductDeskModel", name := "wipe", desc := "(I)V" } : Jvm.MethodName)) ∈ lw_all := lw_g (lw_at lw_m0 178 rfl) rfl
theorem q186 : (Jvm.Cond.selects "ProductDeskModel" ({ cls := "ProductDeskModel", name := "wipe", desc := "(I)V" } : Jvm.MethodName) ({ cls := "ProductDeskModel", name := "wipe", desc := "(I)V" } : Jvm.MethodName)) ∈ lw_all := lw_g (lw_at lw_m0 179 rfl) rfl
theorem q187 : (Jvm.Cond.code ({ cls := "ProductDeskModel", name := "wipe", desc := "(I)V" } : Jvm.MethodName) prog_4_method_4_code (2 : Nat) (Option.none : Option Jvm.ClassFile.FieldType)) ∈ lw_all := lw_g (lw_at lw_m0 180 rfl) rfl
theorem q189 : (Jvm.Cond.instanceMethod ({ cls := "ProductDeskModel", name := "product", desc := "()V" } : Jvm.MethodName)) ∈ lw_all := lw_g (lw_at lw_m0 182 rfl) rfl
theorem q190 : (Jvm.Cond.selects "ProductDeskModel" ({ cls := "ProductDeskModel", name := "product", desc := "()V" } : Jvm.MethodName) ({ cls := "ProductDeskModel", name := "product", desc := "()V" } : Jvm.MethodName)) ∈ lw_all := lw_g (lw_at lw_m0 183 rfl) rfl
theorem q191 : (Jvm.Cond.code ({ cls := "ProductDeskModel", name := "product", desc := "()V" } : Jvm.MethodName) prog_4_method_6_code (3 : Nat) (Option.none : Option Jvm.ClassFile.FieldType)) ∈ lw_all := lw_g (lw_at lw_m0 184 rfl) rfl
theorem q192 : (Jvm.Cond.methodLink "ProductDeskModel" (27 : Nat) ({ cls := "ProductDeskModel", name := "clear", desc := "()V" } : Jvm.MethodName)) ∈ lw_all := lw_g (lw_at lw_m0 185 rfl) rfl
theorem q193 : (Jvm.Cond.privateMethod ({ cls := "ProductDeskModel", name := "clear", desc := "()V" } : Jvm.MethodName)) ∈ lw_tbl := lw_at lw_m0 186 rfl
theorem q194 : (Jvm.Cond.instanceMethod ({ cls := "ProductDeskModel", name := "clear", desc := "()V" } : Jvm.MethodName)) ∈ lw_all := lw_g (lw_at lw_m0 187 rfl) rfl
theorem q195 : (Jvm.Cond.code ({ cls := "ProductDeskModel", name := "clear", desc := "()V" } : Jvm.MethodName) prog_4_method_5_code (2 : Nat) (Option.none : Option Jvm.ClassFile.FieldType)) ∈ lw_all := lw_g (lw_at lw_m0 188 rfl) rfl
theorem q197 : (Jvm.Cond.instanceMethod ({ cls := "ProductDeskModel", name := "circle", desc := "(I)V" } : Jvm.MethodName)) ∈ lw_all := lw_g (lw_at lw_m0 190 rfl) rfl
theorem q198 : (Jvm.Cond.selects "ProductDeskModel" ({ cls := "ProductDeskModel", name := "circle", desc := "(I)V" } : Jvm.MethodName) ({ cls := "ProductDeskModel", name := "circle", desc := "(I)V" } : Jvm.MethodName)) ∈ lw_all := lw_g (lw_at lw_m0 191 rfl) rfl
theorem q199 : (Jvm.Cond.code ({ cls := "ProductDeskModel", name := "circle", desc := "(I)V" } : Jvm.MethodName) prog_4_method_7_code (5 : Nat) (Option.none : Option Jvm.ClassFile.FieldType)) ∈ lw_all := lw_g (lw_at lw_m0 192 rfl) rfl
theorem q201 : (Jvm.Cond.instanceMethod ({ cls := "ProductDeskModel", name := "twisted", desc := "(I)V" } : Jvm.MethodName)) ∈ lw_all := lw_g (lw_at lw_m0 194 rfl) rfl
theorem q202 : (Jvm.Cond.selects "ProductDeskModel" ({ cls := "ProductDeskModel", name := "twisted", desc := "(I)V" } : Jvm.MethodName) ({ cls := "ProductDeskModel", name := "twisted", desc := "(I)V" } : Jvm.MethodName)) ∈ lw_all := lw_g (lw_at lw_m0 195 rfl) rfl
theorem q203 : (Jvm.Cond.code ({ cls := "ProductDeskModel", name := "twisted", desc := "(I)V" } : Jvm.MethodName) prog_4_method_8_code (6 : Nat) (Option.none : Option Jvm.ClassFile.FieldType)) ∈ lw_all := lw_g (lw_at lw_m0 196 rfl) rfl
theorem q205 : (Jvm.Cond.instanceMethod ({ cls := "ProductDeskModel", name := "likeness", desc := "()V" } : Jvm.MethodName)) ∈ lw_all := lw_g (lw_at lw_m0 198 rfl) rfl
theorem q206 : (Jvm.Cond.selects "ProductDeskModel" ({ cls := "ProductDeskModel", name := "likeness", desc := "()V" } : Jvm.MethodName) ({ cls := "ProductDeskModel", name := "likeness", desc := "()V" } : Jvm.MethodName)) ∈ lw_all := lw_g (lw_at lw_m0 199 rfl) rfl
theorem q207 : (Jvm.Cond.code ({ cls := "ProductDeskModel", name := "likeness", desc := "()V" } : Jvm.MethodName) prog_4_method_9_code (3 : Nat) (Option.none : Option Jvm.ClassFile.FieldType)) ∈ lw_all := lw_g (lw_at lw_m0 200 rfl) rfl
theorem q209 : (Jvm.Cond.instanceMethod ({ cls := "ProductDeskModel", name := "at", desc := "(I)J" } : Jvm.MethodName)) ∈ lw_all := lw_g (lw_at lw_m0 202 rfl) rfl
theorem q210 : (Jvm.Cond.selects "ProductDeskModel" ({ cls := "ProductDeskModel", name := "at", desc := "(I)J" } : Jvm.MethodName) ({ cls := "ProductDeskModel", name := "at", desc := "(I)J" } : Jvm.MethodName)) ∈ lw_all := lw_g (lw_at lw_m0 203 rfl) rfl
theorem q211 : (Jvm.Cond.code ({ cls := "ProductDeskModel", name := "at", desc := "(I)J" } : Jvm.MethodName) prog_4_method_10_code (2 : Nat) (Option.some Jvm.ClassFile.FieldType.long)) ∈ lw_all := lw_g (lw_at lw_m0 204 rfl) rfl
theorem in_X2 : ∀ w ∈ wsX20, w ∈ lw_all := lw_in wsX20 [165, 167, 169, 171, 173] (by decide +kernel) (by decide +kernel)
end
section
/-! java/lang/Object -/
set_option maxRecDepth 100000
def RJ0 : String := "java/lang/Object"
abbrev cJ0_init : ByteArray := object_method_1_code
def yJ0_init : MethodName := ⟨RJ0, "<init>", "()V"⟩
theorem dJ0_init_0 : decode cJ0_init 0 = .ok (.return_, 1) := by decide +kernel
theorem q17 : (Jvm.Cond.instanceMethod ({ cls := "java/lang/Object", name := "<init>", desc := "()V" } : Jvm.MethodName)) ∈ lw_all := lw_g (lw_at lw_m0 10 rfl) rfl
theorem q18 : (Jvm.Cond.code ({ cls := "java/lang/Object", name := "<init>", desc := "()V" } : Jvm.MethodName) object_method_1_code (1 : Nat) (Option.none : Option Jvm.ClassFile.FieldType)) ∈ lw_all := lw_g (lw_at lw_m0 11 rfl) rfl
theorem q37 : (Jvm.Cond.arrayClass Jvm.ClassFile.FieldType.long) ∈ lw_all := lw_g (lw_at lw_m0 30 rfl) rfl
set_option maxRecDepth 100000
theorem q67 : (Jvm.Cond.arrayClass Jvm.ClassFile.FieldType.int) ∈ lw_all := lw_g (lw_at lw_m0 60 rfl) rfl
theorem q7 : (Jvm.Cond.initialized "ProductDeskLaw") ∈ lw_all := lw_g (lw_at lw_m0 0 rfl) rfl
set_option maxRecDepth 100000
theorem q11 : (Jvm.Cond.classLink "ProductDeskLaw" (7 : Nat) "ProductDesk") ∈ lw_all := lw_g (lw_at lw_m0 4 rfl) rfl
theorem q13 : (Jvm.Cond.methodLink "ProductDeskLaw" (9 : Nat) ({ cls := "ProductDesk", name := "<init>", desc := "()V" } : Jvm.MethodName)) ∈ lw_all := lw_g (lw_at lw_m0 6 rfl) rfl
theorem q68 : (Jvm.Cond.methodLink "ProductDeskLaw" (13 : Nat) ({ cls := "ProductDesk", name := "left", desc := "(IIII)Z" } : Jvm.MethodName)) ∈ lw_all := lw_g (lw_at lw_m0 61 rfl) rfl
theorem q75 : (Jvm.Cond.methodLink "ProductDeskLaw" (18 : Nat) ({ cls := "ProductDesk", name := "right", desc := "(IIII)Z" } : Jvm.MethodName)) ∈ lw_all := lw_g (lw_at lw_m0 68 rfl) rfl
theorem q79 : (Jvm.Cond.methodLink "ProductDeskLaw" (22 : Nat) ({ cls := "ProductDesk", name := "wipe", desc := "(I)V" } : Jvm.MethodName)) ∈ lw_all := lw_g (lw_at lw_m0 72 rfl) rfl
theorem q83 : (Jvm.Cond.methodLink "ProductDeskLaw" (27 : Nat) ({ cls := "ProductDesk", name := "product", desc := "()V" } : Jvm.MethodName)) ∈ lw_all := lw_g (lw_at lw_m0 76 rfl) rfl
theorem q134 : (Jvm.Cond.methodLink "ProductDeskLaw" (31 : Nat) ({ cls := "ProductDesk", name := "circle", desc := "(I)V" } : Jvm.MethodName)) ∈ lw_all := lw_g (lw_at lw_m0 127 rfl) rfl
theorem q142 : (Jvm.Cond.methodLink "ProductDeskLaw" (35 : Nat) ({ cls := "ProductDesk", name := "twisted", desc := "(I)V" } : Jvm.MethodName)) ∈ lw_all := lw_g (lw_at lw_m0 135 rfl) rfl
theorem q146 : (Jvm.Cond.methodLink "ProductDeskLaw" (39 : Nat) ({ cls := "ProductDesk", name := "likeness", desc := "()V" } : Jvm.MethodName)) ∈ lw_all := lw_g (lw_at lw_m0 139 rfl) rfl
theorem q150 : (Jvm.Cond.methodLink "ProductDeskLaw" (43 : Nat) ({ cls := "ProductDesk", name := "at", desc := "(I)J" } : Jvm.MethodName)) ∈ lw_all := lw_g (lw_at lw_m0 143 rfl) rfl
theorem q154 : (Jvm.Cond.classLink "ProductDeskLaw" (10 : Nat) "ProductDeskModel") ∈ lw_all := lw_g (lw_at lw_m0 147 rfl) rfl
theorem q156 : (Jvm.Cond.methodLink "ProductDeskLaw" (12 : Nat) ({ cls := "ProductDeskModel", name := "<init>", desc := "()V" } : Jvm.MethodName)) ∈ lw_all := lw_g (lw_at lw_m0 149 rfl) rfl
theorem q176 : (Jvm.Cond.methodLink "ProductDeskLaw" (17 : Nat) ({ cls := "ProductDeskModel", name := "left", desc := "(IIII)Z" } : Jvm.MethodName)) ∈ lw_all := lw_g (lw_at lw_m0 169 rfl) rfl
theorem q180 : (Jvm.Cond.methodLink "ProductDeskLaw" (21 : Nat) ({ cls := "ProductDeskModel", name := "right", desc := "(IIII)Z" } : Jvm.MethodName)) ∈ lw_all := lw_g (lw_at lw_m0 173 rfl) rfl
theorem q184 : (Jvm.Cond.methodLink "ProductDeskLaw" (26 : Nat) ({ cls := "ProductDeskModel", name := "wipe", desc := "(I)V" } : Jvm.MethodName)) ∈ lw_all := lw_g (lw_at lw_m0 177 rfl) rfl
theorem q188 : (Jvm.Cond.methodLink "ProductDeskLaw" (30 : Nat) ({ cls := "ProductDeskModel", name := "product", desc := "()V" } : Jvm.MethodName)) ∈ lw_all := lw_g (lw_at lw_m0 181 rfl) rfl
theorem q196 : (Jvm.Cond.methodLink "ProductDeskLaw" (34 : Nat) ({ cls := "ProductDeskModel", name := "circle", desc := "(I)V" } : Jvm.MethodName)) ∈ lw_all := lw_g (lw_at lw_m0 189 rfl) rfl
theorem q200 : (Jvm.Cond.methodLink "ProductDeskLaw" (38 : Nat) ({ cls := "ProductDeskModel", name := "twisted", desc := "(I)V" } : Jvm.MethodName)) ∈ lw_all := lw_g (lw_at lw_m0 193 rfl) rfl
theorem q204 : (Jvm.Cond.methodLink "ProductDeskLaw" (42 : Nat) ({ cls := "ProductDeskModel", name := "likeness", desc := "()V" } : Jvm.MethodName)) ∈ lw_all := lw_g (lw_at lw_m0 197 rfl) rfl
theorem q208 : (Jvm.Cond.methodLink "ProductDeskLaw" (47 : Nat) ({ cls := "ProductDeskModel", name := "at", desc := "(I)J" } : Jvm.MethodName)) ∈ lw_all := lw_g (lw_at lw_m0 201 rfl) rfl
/-! the law's own entry -/
set_option maxRecDepth 100000
abbrev cL_law : ByteArray := code
theorem dL_law_0 : decode cL_law 0 = .ok (.new 7, 3) := by decide +kernel
theorem dL_law_3 : decode cL_law 3 = .ok (.dup, 1) := by decide +kernel
theorem dL_law_4 : decode cL_law 4 = .ok (.invokespecial 9, 3) := by decide +kernel
theorem dL_law_7 : decode cL_law 7 = .ok (.astore_n 1, 1) := by decide +kernel
theorem dL_law_8 : decode cL_law 8 = .ok (.new 10, 3) := by decide +kernel
theorem dL_law_11 : decode cL_law 11 = .ok (.dup, 1) := by decide +kernel
theorem dL_law_12 : decode cL_law 12 = .ok (.invokespecial 12, 3) := by decide +kernel
theorem dL_law_15 : decode cL_law 15 = .ok (.astore_n 2, 1) := by decide +kernel
theorem dL_law_16 : decode cL_law 16 = .ok (.iconst 0, 1) := by decide +kernel
theorem dL_law_17 : decode cL_law 17 = .ok (.istore_n 3, 1) := by decide +kernel
theorem dL_law_18 : decode cL_law 18 = .ok (.iload_n 3, 1) := by decide +kernel
theorem dL_law_19 : decode cL_law 19 = .ok (.aload_n 0, 1) := by decide +kernel
theorem dL_law_20 : decode cL_law 20 = .ok (.arraylength, 1) := by decide +kernel
theorem dL_law_21 : decode cL_law 21 = .ok (.iconst 5, 1) := by decide +kernel
theorem dL_law_22 : decode cL_law 22 = .ok (.isub, 1) := by decide +kernel
theorem dL_law_23 : decode cL_law 23 = .ok (.if_icmp .gt 278, 3) := by decide +kernel
theorem dL_law_26 : decode cL_law 26 = .ok (.aload_n 0, 1) := by decide +kernel
theorem dL_law_27 : decode cL_law 27 = .ok (.iload_n 3, 1) := by decide +kernel
theorem dL_law_28 : decode cL_law 28 = .ok (.iaload, 1) := by decide +kernel
theorem dL_law_29 : decode cL_law 29 = .ok (.bipush 7, 2) := by decide +kernel
theorem dL_law_31 : decode cL_law 31 = .ok (.iand, 1) := by decide +kernel
theorem dL_law_32 : decode cL_law 32 = .ok (.tableswitch 263 0 7 #[48, 101, 154, 175, 186, 207, 228, 239], 48) := by decide +kernel
theorem dL_law_80 : decode cL_law 80 = .ok (.aload_n 1, 1) := by decide +kernel
theorem dL_law_81 : decode cL_law 81 = .ok (.aload_n 0, 1) := by decide +kernel
theorem dL_law_82 : decode cL_law 82 = .ok (.iload_n 3, 1) := by decide +kernel
theorem dL_law_83 : decode cL_law 83 = .ok (.iconst 1, 1) := by decide +kernel
theorem dL_law_84 : decode cL_law 84 = .ok (.iadd, 1) := by decide +kernel
theorem dL_law_85 : decode cL_law 85 = .ok (.iaload, 1) := by decide +kernel
theorem dL_law_86 : decode cL_law 86 = .ok (.aload_n 0, 1) := by decide +kernel
theorem dL_law_87 : decode cL_law 87 = .ok (.iload_n 3, 1) := by decide +kernel
theorem dL_law_88 : decode cL_law 88 = .ok (.iconst 2, 1) := by decide +kernel
theorem dL_law_89 : decode cL_law 89 = .ok (.iadd, 1) := by decide +kernel
theorem dL_law_90 : decode cL_law 90 = .ok (.iaload, 1) := by decide +kernel
theorem dL_law_91 : decode cL_law 91 = .ok (.aload_n 0, 1) := by decide +kernel
theorem dL_law_92 : decode cL_law 92 = .ok (.iload_n 3, 1) := by decide +kernel
theorem dL_law_93 : decode cL_law 93 = .ok (.iconst 3, 1) := by decide +kernel
theorem dL_law_94 : decode cL_law 94 = .ok (.iadd, 1) := by decide +kernel
theorem dL_law_95 : decode cL_law 95 = .ok (.iaload, 1) := by decide +kernel
theorem dL_law_96 : decode cL_law 96 = .ok (.aload_n 0, 1) := by decide +kernel
theorem dL_law_97 : decode cL_law 97 = .ok (.iload_n 3, 1) := by decide +kernel
theorem dL_law_98 : decode cL_law 98 = .ok (.iconst 4, 1) := by decide +kernel
theorem dL_law_99 : decode cL_law 99 = .ok (.iadd, 1) := by decide +kernel
theorem dL_law_100 : decode cL_law 100 = .ok (.iaload, 1) := by decide +kernel
theorem dL_law_101 : decode cL_law 101 = .ok (.invokevirtual 13, 3) := by decide +kernel
theorem dL_law_104 : decode cL_law 104 = .ok (.aload_n 2, 1) := by decide +kernel
theorem dL_law_105 : decode cL_law 105 = .ok (.aload_n 0, 1) := by decide +kernel
theorem dL_law_106 : decode cL_law 106 = .ok (.iload_n 3, 1) := by decide +kernel
theorem dL_law_107 : decode cL_law 107 = .ok (.iconst 1, 1) := by decide +kernel
theorem dL_law_108 : decode cL_law 108 = .ok (.iadd, 1) := by decide +kernel
theorem dL_law_109 : decode cL_law 109 = .ok (.iaload, 1) := by decide +kernel
theorem dL_law_110 : decode cL_law 110 = .ok (.aload_n 0, 1) := by decide +kernel
theorem dL_law_111 : decode cL_law 111 = .ok (.iload_n 3, 1) := by decide +kernel
theorem dL_law_112 : decode cL_law 112 = .ok (.iconst 2, 1) := by decide +kernel
theorem dL_law_113 : decode cL_law 113 = .ok (.iadd, 1) := by decide +kernel
theorem dL_law_114 : decode cL_law 114 = .ok (.iaload, 1) := by decide +kernel
theorem dL_law_115 : decode cL_law 115 = .ok (.aload_n 0, 1) := by decide +kernel
theorem dL_law_116 : decode cL_law 116 = .ok (.iload_n 3, 1) := by decide +kernel
theorem dL_law_117 : decode cL_law 117 = .ok (.iconst 3, 1) := by decide +kernel
theorem dL_law_118 : decode cL_law 118 = .ok (.iadd, 1) := by decide +kernel
theorem dL_law_119 : decode cL_law 119 = .ok (.iaload, 1) := by decide +kernel
theorem dL_law_120 : decode cL_law 120 = .ok (.aload_n 0, 1) := by decide +kernel
theorem dL_law_121 : decode cL_law 121 = .ok (.iload_n 3, 1) := by decide +kernel
theorem dL_law_122 : decode cL_law 122 = .ok (.iconst 4, 1) := by decide +kernel
theorem dL_law_123 : decode cL_law 123 = .ok (.iadd, 1) := by decide +kernel
theorem dL_law_124 : decode cL_law 124 = .ok (.iaload, 1) := by decide +kernel
theorem dL_law_125 : decode cL_law 125 = .ok (.invokevirtual 17, 3) := by decide +kernel
theorem dL_law_128 : decode cL_law 128 = .ok (.if_icmp .eq 167, 3) := by decide +kernel
theorem dL_law_131 : decode cL_law 131 = .ok (.iconst 0, 1) := by decide +kernel
theorem dL_law_132 : decode cL_law 132 = .ok (.ireturn, 1) := by decide +kernel
theorem dL_law_133 : decode cL_law 133 = .ok (.aload_n 1, 1) := by decide +kernel
theorem dL_law_134 : decode cL_law 134 = .ok (.aload_n 0, 1) := by decide +kernel
theorem dL_law_135 : decode cL_law 135 = .ok (.iload_n 3, 1) := by decide +kernel
theorem dL_law_136 : decode cL_law 136 = .ok (.iconst 1, 1) := by decide +kernel
theorem dL_law_137 : decode cL_law 137 = .ok (.iadd, 1) := by decide +kernel
theorem dL_law_138 : decode cL_law 138 = .ok (.iaload, 1) := by decide +kernel
theorem dL_law_139 : decode cL_law 139 = .ok (.aload_n 0, 1) := by decide +kernel
theorem dL_law_140 : decode cL_law 140 = .ok (.iload_n 3, 1) := by decide +kernel
theorem dL_law_141 : decode cL_law 141 = .ok (.iconst 2, 1) := by decide +kernel
theorem dL_law_142 : decode cL_law 142 = .ok (.iadd, 1) := by decide +kernel
theorem dL_law_143 : decode cL_law 143 = .ok (.iaload, 1) := by decide +kernel
theorem dL_law_144 : decode cL_law 144 = .ok (.aload_n 0, 1) := by decide +kernel
theorem dL_law_145 : decode cL_law 145 = .ok (.iload_n 3, 1) := by decide +kernel
theorem dL_law_146 : decode cL_law 146 = .ok (.iconst 3, 1) := by decide +kernel
theorem dL_law_147 : decode cL_law 147 = .ok (.iadd, 1) := by decide +kernel
theorem dL_law_148 : decode cL_law 148 = .ok (.iaload, 1) := by decide +kernel
theorem dL_law_149 : decode cL_law 149 = .ok (.aload_n 0, 1) := by decide +kernel
theorem dL_law_150 : decode cL_law 150 = .ok (.iload_n 3, 1) := by decide +kernel
theorem dL_law_151 : decode cL_law 151 = .ok (.iconst 4, 1) := by decide +kernel
theorem dL_law_152 : decode cL_law 152 = .ok (.iadd, 1) := by decide +kernel
theorem dL_law_153 : decode cL_law 153 = .ok (.iaload, 1) := by decide +kernel
theorem dL_law_154 : decode cL_law 154 = .ok (.invokevirtual 18, 3) := by decide +kernel
theorem dL_law_157 : decode cL_law 157 = .ok (.aload_n 2, 1) := by decide +kernel
theorem dL_law_158 : decode cL_law 158 = .ok (.aload_n 0, 1) := by decide +kernel
theorem dL_law_159 : decode cL_law 159 = .ok (.iload_n 3, 1) := by decide +kernel
theorem dL_law_160 : decode cL_law 160 = .ok (.iconst 1, 1) := by decide +kernel
theorem dL_law_161 : decode cL_law 161 = .ok (.iadd, 1) := by decide +kernel
theorem dL_law_162 : decode cL_law 162 = .ok (.iaload, 1) := by decide +kernel
theorem dL_law_163 : decode cL_law 163 = .ok (.aload_n 0, 1) := by decide +kernel
theorem dL_law_164 : decode cL_law 164 = .ok (.iload_n 3, 1) := by decide +kernel
theorem dL_law_165 : decode cL_law 165 = .ok (.iconst 2, 1) := by decide +kernel
theorem dL_law_166 : decode cL_law 166 = .ok (.iadd, 1) := by decide +kernel
theorem dL_law_167 : decode cL_law 167 = .ok (.iaload, 1) := by decide +kernel
theorem dL_law_168 : decode cL_law 168 = .ok (.aload_n 0, 1) := by decide +kernel
theorem dL_law_169 : decode cL_law 169 = .ok (.iload_n 3, 1) := by decide +kernel
theorem dL_law_170 : decode cL_law 170 = .ok (.iconst 3, 1) := by decide +kernel
theorem dL_law_171 : decode cL_law 171 = .ok (.iadd, 1) := by decide +kernel
theorem dL_law_172 : decode cL_law 172 = .ok (.iaload, 1) := by decide +kernel
theorem dL_law_173 : decode cL_law 173 = .ok (.aload_n 0, 1) := by decide +kernel
theorem dL_law_174 : decode cL_law 174 = .ok (.iload_n 3, 1) := by decide +kernel
theorem dL_law_175 : decode cL_law 175 = .ok (.iconst 4, 1) := by decide +kernel
theorem dL_law_176 : decode cL_law 176 = .ok (.iadd, 1) := by decide +kernel
theorem dL_law_177 : decode cL_law 177 = .ok (.iaload, 1) := by decide +kernel
theorem dL_law_178 : decode cL_law 178 = .ok (.invokevirtual 21, 3) := by decide +kernel
theorem dL_law_181 : decode cL_law 181 = .ok (.if_icmp .eq 114, 3) := by decide +kernel
theorem dL_law_184 : decode cL_law 184 = .ok (.iconst 0, 1) := by decide +kernel
theorem dL_law_185 : decode cL_law 185 = .ok (.ireturn, 1) := by decide +kernel
theorem dL_law_186 : decode cL_law 186 = .ok (.aload_n 1, 1) := by decide +kernel
theorem dL_law_187 : decode cL_law 187 = .ok (.aload_n 0, 1) := by decide +kernel
theorem dL_law_188 : decode cL_law 188 = .ok (.iload_n 3, 1) := by decide +kernel
theorem dL_law_189 : decode cL_law 189 = .ok (.iconst 1, 1) := by decide +kernel
theorem dL_law_190 : decode cL_law 190 = .ok (.iadd, 1) := by decide +kernel
theorem dL_law_191 : decode cL_law 191 = .ok (.iaload, 1) := by decide +kernel
theorem dL_law_192 : decode cL_law 192 = .ok (.invokevirtual 22, 3) := by decide +kernel
theorem dL_law_195 : decode cL_law 195 = .ok (.aload_n 2, 1) := by decide +kernel
theorem dL_law_196 : decode cL_law 196 = .ok (.aload_n 0, 1) := by decide +kernel
theorem dL_law_197 : decode cL_law 197 = .ok (.iload_n 3, 1) := by decide +kernel
theorem dL_law_198 : decode cL_law 198 = .ok (.iconst 1, 1) := by decide +kernel
theorem dL_law_199 : decode cL_law 199 = .ok (.iadd, 1) := by decide +kernel
theorem dL_law_200 : decode cL_law 200 = .ok (.iaload, 1) := by decide +kernel
theorem dL_law_201 : decode cL_law 201 = .ok (.invokevirtual 26, 3) := by decide +kernel
theorem dL_law_204 : decode cL_law 204 = .ok (.goto 91, 3) := by decide +kernel
theorem dL_law_207 : decode cL_law 207 = .ok (.aload_n 1, 1) := by decide +kernel
theorem dL_law_208 : decode cL_law 208 = .ok (.invokevirtual 27, 3) := by decide +kernel
theorem dL_law_211 : decode cL_law 211 = .ok (.aload_n 2, 1) := by decide +kernel
theorem dL_law_212 : decode cL_law 212 = .ok (.invokevirtual 30, 3) := by decide +kernel
theorem dL_law_215 : decode cL_law 215 = .ok (.goto 80, 3) := by decide +kernel
theorem dL_law_218 : decode cL_law 218 = .ok (.aload_n 1, 1) := by decide +kernel
theorem dL_law_219 : decode cL_law 219 = .ok (.aload_n 0, 1) := by decide +kernel
theorem dL_law_220 : decode cL_law 220 = .ok (.iload_n 3, 1) := by decide +kernel
theorem dL_law_221 : decode cL_law 221 = .ok (.iconst 1, 1) := by decide +kernel
theorem dL_law_222 : decode cL_law 222 = .ok (.iadd, 1) := by decide +kernel
theorem dL_law_223 : decode cL_law 223 = .ok (.iaload, 1) := by decide +kernel
theorem dL_law_224 : decode cL_law 224 = .ok (.invokevirtual 31, 3) := by decide +kernel
theorem dL_law_227 : decode cL_law 227 = .ok (.aload_n 2, 1) := by decide +kernel
theorem dL_law_228 : decode cL_law 228 = .ok (.aload_n 0, 1) := by decide +kernel
theorem dL_law_229 : decode cL_law 229 = .ok (.iload_n 3, 1) := by decide +kernel
theorem dL_law_230 : decode cL_law 230 = .ok (.iconst 1, 1) := by decide +kernel
theorem dL_law_231 : decode cL_law 231 = .ok (.iadd, 1) := by decide +kernel
theorem dL_law_232 : decode cL_law 232 = .ok (.iaload, 1) := by decide +kernel
theorem dL_law_233 : decode cL_law 233 = .ok (.invokevirtual 34, 3) := by decide +kernel
theorem dL_law_236 : decode cL_law 236 = .ok (.goto 59, 3) := by decide +kernel
theorem dL_law_239 : decode cL_law 239 = .ok (.aload_n 1, 1) := by decide +kernel
theorem dL_law_240 : decode cL_law 240 = .ok (.aload_n 0, 1) := by decide +kernel
theorem dL_law_241 : decode cL_law 241 = .ok (.iload_n 3, 1) := by decide +kernel
theorem dL_law_242 : decode cL_law 242 = .ok (.iconst 1, 1) := by decide +kernel
theorem dL_law_243 : decode cL_law 243 = .ok (.iadd, 1) := by decide +kernel
theorem dL_law_244 : decode cL_law 244 = .ok (.iaload, 1) := by decide +kernel
theorem dL_law_245 : decode cL_law 245 = .ok (.invokevirtual 35, 3) := by decide +kernel
theorem dL_law_248 : decode cL_law 248 = .ok (.aload_n 2, 1) := by decide +kernel
theorem dL_law_249 : decode cL_law 249 = .ok (.aload_n 0, 1) := by decide +kernel
theorem dL_law_250 : decode cL_law 250 = .ok (.iload_n 3, 1) := by decide +kernel
theorem dL_law_251 : decode cL_law 251 = .ok (.iconst 1, 1) := by decide +kernel
theorem dL_law_252 : decode cL_law 252 = .ok (.iadd, 1) := by decide +kernel
theorem dL_law_253 : decode cL_law 253 = .ok (.iaload, 1) := by decide +kernel
theorem dL_law_254 : decode cL_law 254 = .ok (.invokevirtual 38, 3) := by decide +kernel
theorem dL_law_257 : decode cL_law 257 = .ok (.goto 38, 3) := by decide +kernel
theorem dL_law_260 : decode cL_law 260 = .ok (.aload_n 1, 1) := by decide +kernel
theorem dL_law_261 : decode cL_law 261 = .ok (.invokevirtual 39, 3) := by decide +kernel
theorem dL_law_264 : decode cL_law 264 = .ok (.aload_n 2, 1) := by decide +kernel
theorem dL_law_265 : decode cL_law 265 = .ok (.invokevirtual 42, 3) := by decide +kernel
theorem dL_law_268 : decode cL_law 268 = .ok (.goto 27, 3) := by decide +kernel
theorem dL_law_271 : decode cL_law 271 = .ok (.aload_n 1, 1) := by decide +kernel
theorem dL_law_272 : decode cL_law 272 = .ok (.aload_n 0, 1) := by decide +kernel
theorem dL_law_273 : decode cL_law 273 = .ok (.iload_n 3, 1) := by decide +kernel
theorem dL_law_274 : decode cL_law 274 = .ok (.iconst 1, 1) := by decide +kernel
theorem dL_law_275 : decode cL_law 275 = .ok (.iadd, 1) := by decide +kernel
theorem dL_law_276 : decode cL_law 276 = .ok (.iaload, 1) := by decide +kernel
theorem dL_law_277 : decode cL_law 277 = .ok (.invokevirtual 43, 3) := by decide +kernel
theorem dL_law_280 : decode cL_law 280 = .ok (.aload_n 2, 1) := by decide +kernel
theorem dL_law_281 : decode cL_law 281 = .ok (.aload_n 0, 1) := by decide +kernel
theorem dL_law_282 : decode cL_law 282 = .ok (.iload_n 3, 1) := by decide +kernel
theorem dL_law_283 : decode cL_law 283 = .ok (.iconst 1, 1) := by decide +kernel
theorem dL_law_284 : decode cL_law 284 = .ok (.iadd, 1) := by decide +kernel
theorem dL_law_285 : decode cL_law 285 = .ok (.iaload, 1) := by decide +kernel
theorem dL_law_286 : decode cL_law 286 = .ok (.invokevirtual 47, 3) := by decide +kernel
theorem dL_law_289 : decode cL_law 289 = .ok (.lcmp, 1) := by decide +kernel
theorem dL_law_290 : decode cL_law 290 = .ok (.ifCond .eq 5, 3) := by decide +kernel
theorem dL_law_293 : decode cL_law 293 = .ok (.iconst 0, 1) := by decide +kernel
theorem dL_law_294 : decode cL_law 294 = .ok (.ireturn, 1) := by decide +kernel
theorem dL_law_295 : decode cL_law 295 = .ok (.iinc 3 5, 3) := by decide +kernel
theorem dL_law_298 : decode cL_law 298 = .ok (.goto (-280), 3) := by decide +kernel
theorem dL_law_301 : decode cL_law 301 = .ok (.iconst 1, 1) := by decide +kernel
theorem dL_law_302 : decode cL_law 302 = .ok (.ireturn, 1) := by decide +kernel
end
section
/-! rows of our own: instructions over counted numbers (nI, lN), calls with their frame, a method's start -/
abbrev vwCl : List vw_C := [(RX0, TX0, 9), (RX1, TX1, 3), (RX2, TX2, 5)]
abbrev k_T : Type := List (ClassId × FieldType)
/-- what a walk of a method's body knows of its machine -/
def k_C (p : Program) (s : State) (m : MethodId) (args : Array Value) (meth : Method) (c : Code) (y : MethodName) (cc : ByteArray) (n : Nat) (ret : Option FieldType) : Prop :=
  p.tables.exec = Jvm.exec ∧ c.code = cc ∧ c.maxLocals = n ∧ meth.sig.returnType = ret ∧ meth.locks = false ∧ s.vm.findClass y.cls = some m.cls ∧ meth.name = y.name ∧ ∀ w ∈ lw_all, w.before args s = true
/-- a contract's start: the cells ws, apart, the array classes tys -/
abbrev k_Pc (D : va_G) (av : List Value) (ws : va_W) (tys : k_T) (sz : Nat) : Array Value → State → Prop := va_Pc av (fun U => U.heap.size = sz ∧ va_P D vwCl ws U.heap ∧ va_K D vwCl tys U ∧ va_D (fun _ => True) ws)
/-- a contract's end -/
abbrev k_B (D : va_G) (A : Nat → Prop) (ws : va_W) (tys : k_T) (t : State) : Prop := va_P D vwCl ws t.heap ∧ va_K D vwCl tys t ∧ va_D A ws
/-- contracts: void, int, long -/
def k_Mv {S : Type} (l : Launch) (y : MethodName) (cc : ByteArray) (n : Nat) (rm : Room) (D : va_G) (av : List Value) (ws : va_W) (tys : k_T) (post : S → Prop) (wn : S → va_W) (tn : S → k_T) (mc ms : Nat) : Prop :=
  ∀ sz, Met l y (ws_ y cc n none) rm (k_Pc D av ws tys sz) (va_Qv post (fun u t => k_B D (va_A ws sz) (wn u) (tn u) t) (va_A ws sz)) mc ms (va_A ws sz)
def k_Mi {S : Type} (l : Launch) (y : MethodName) (cc : ByteArray) (n : Nat) (ret : Option FieldType) (rm : Room) (D : va_G) (av : List Value) (ws : va_W) (tys : k_T) (post : Int32 → S → Prop) (wn : S → va_W) : Prop :=
  ∀ sz, Met l y (ws_ y cc n ret) rm (k_Pc D av ws tys sz) (va_Qi post (fun u t => k_B D (va_A ws sz) (wn u) tys t) (va_A ws sz)) 0 0 (va_A ws sz)
def k_Ml {S : Type} (l : Launch) (y : MethodName) (cc : ByteArray) (n : Nat) (rm : Room) (D : va_G) (av : List Value) (ws : va_W) (tys : k_T) (post : Int64 → S → Prop) (wn : S → va_W) : Prop :=
  ∀ sz, Met l y (ws_ y cc n (some .long)) rm (k_Pc D av ws tys sz) (va_Ql post (fun u t => k_B D (va_A ws sz) (wn u) tys t) (va_A ws sz)) 0 0 (va_A ws sz)
/-- a method's start -/
theorem k_met {l : Launch} {y : MethodName} {cc : ByteArray} {n : Nat} {ret : Option FieldType} {rm : Room} {D : va_G} {ws : va_W} {tys : k_T} {av : List Value} {sz : Nat} {Qc : (Nat → Prop) → Array Value → State → Outcome → State → Prop} {mc ms : Nat}
    (hy : plainName y.cls = true) (hlen : (lg_sl av).length ≤ n)
    (body : ∀ (p : Program) (e : Env) (s : State) (m : MethodId) (below : List Frame) (meth : Method) (c : Code) (A : Nat → Prop) (ls : Array Slot), k_C p s m av.toArray meth c y cc n ret → va_P D vwCl ws s.heap → va_K D vwCl tys s → va_D A ws → (∀ q : Nat, s.heap.size ≤ q → A q) → va_S A s.heap s.heap [] → lv_has ls n (lv_args 0 av) → W p l e rm s m av.toArray below meth c s.heap [] 0 0 (MQ below (Qc A) av.toArray s mc ms A) (F0 m 0 ls [])) :
    Met l y (ws_ y cc n ret) rm (k_Pc D av ws tys sz) (Qc (va_A ws sz)) mc ms (va_A ws sz) := by
  refine Met.ofW (cc := cc) (maxL := n) (ret := ret) hy rfl ?_
  intro p e s m args below meth c s₁ B hml hv
  obtain ⟨rfl, hsz, hP, hK, hD0⟩ := hv
  have hts := atoms_spec (ws := ws_ y cc n ret) B.pre
  have hts : ∀ w ∈ lw_all, w.before _ s = true := fun w h => hts w (List.mem_cons_of_mem _ h)
  have hown : s.vm.findClass y.cls = some m.cls := findClass_of_methodNamed B.named
  have hin : meth.name = y.name := (name_of_methodNamed B.named B.method).1
  subst hsz
  have hD := hD0.self (sz := s.heap.size)
  generalize hAe : va_A ws s.heap.size = A at hD ⊢
  have hA : ∀ q : Nat, s.heap.size ≤ q → A q := fun q h => by rw [← hAe]; exact Or.inr h
  have hS : va_S A s.heap s.heap [] := va_S.rf
  have hl := lv_entry av (n := n) hlen
  rw [lg_entry_eq]
  generalize (lg_sl av ++ List.replicate (n - (lg_sl av).length) Slot.unset).toArray = ls at hl ⊢
  exact body p e s m below meth c A ls ⟨B.exec, B.bytes, hml, B.returns, B.notSynchronized, hown, hin, hts⟩ hP hK hD hA hS hl
theorem k_fm {α β : Type} (f : α → Option β) : ∀ (is : List α) (ws : List β), is.map f = ws.map some → is.filterMap f = ws := by
  intro is
  induction is with
  | nil =>
    intro ws h
    cases ws with
    | nil => rfl
    | cons w ws => simp at h
  | cons i is ih =>
    intro ws h
    cases ws with
    | nil => simp at h
    | cons w ws =>
      simp only [List.map_cons, List.cons.injEq] at h
      rw [List.filterMap_cons, h.1, ih ws h.2]
section KR
variable {p : Program} {l : Launch} {e : Env} {R : Room} {s : State} {m : MethodId} {args : Array Value} {below : List Frame} {meth : Method} {c : Code} {H : Heap} {locs : List Loc} {cells slots : Nat} {Q : State → Prop}
variable {cc : ByteArray} {pc : Nat} {ls : Array Slot} {rest : List Value} {D : va_G} {cl : List vw_C} {A : Nat → Prop} {a : Nat} {tys : List (ClassId × FieldType)} {ws : va_W} {H0 : Heap}
/-- the top of the stack by another name -/
theorem k_ti {x : Int32} (y : Int32) (h : x = y) (k : W p l e R s m args below meth c H locs cells slots Q (F0 m pc ls (.int y :: rest))) : W p l e R s m args below meth c H locs cells slots Q (F0 m pc ls (.int x :: rest)) := h ▸ k
theorem k_tl {x : Int64} (y : Int64) (h : x = y) (k : W p l e R s m args below meth c H locs cells slots Q (F0 m pc ls (.long y :: rest))) : W p l e R s m args below meth c H locs cells slots Q (F0 m pc ls (.long x :: rest)) := h ▸ k
theorem k_iadd (hexec : p.tables.exec = Jvm.exec) (hb : c.code = cc) {a b : Nat} (hdg : decode cc pc = .ok (.iadd, 1)) (k : W p l e R s m args below meth c H locs cells slots Q (F0 m (pc + 1) ls (.int (nI (a + b)) :: rest))) : W p l e R s m args below meth c H locs cells slots Q (F0 m pc ls (.int (nI b) :: .int (nI a) :: rest)) := lv_iadd hexec hb hdg (by rw [nI_add]; exact k)
theorem k_isub (hexec : p.tables.exec = Jvm.exec) (hb : c.code = cc) {a b : Nat} (hdg : decode cc pc = .ok (.isub, 1)) (h : b ≤ a) (k : W p l e R s m args below meth c H locs cells slots Q (F0 m (pc + 1) ls (.int (nI (a - b)) :: rest))) : W p l e R s m args below meth c H locs cells slots Q (F0 m pc ls (.int (nI b) :: .int (nI a) :: rest)) := lv_isub hexec hb hdg (by rw [pk_sub h]; exact k)
theorem k_imul (hexec : p.tables.exec = Jvm.exec) (hb : c.code = cc) {a b : Nat} (hdg : decode cc pc = .ok (.imul, 1)) (k : W p l e R s m args below meth c H locs cells slots Q (F0 m (pc + 1) ls (.int (nI (a * b)) :: rest))) : W p l e R s m args below meth c H locs cells slots Q (F0 m pc ls (.int (nI b) :: .int (nI a) :: rest)) := lv_imul hexec hb hdg (by rw [pk_mul]; exact k)
theorem k_idiv (hexec : p.tables.exec = Jvm.exec) (hb : c.code = cc) {a b : Nat} (hdg : decode cc pc = .ok (.idiv, 1)) (ha : a < 2 ^ 31) (h0 : 0 < b) (hb2 : b < 2 ^ 31) (k : W p l e R s m args below meth c H locs cells slots Q (F0 m (pc + 1) ls (.int (nI (a / b)) :: rest))) : W p l e R s m args below meth c H locs cells slots Q (F0 m pc ls (.int (nI b) :: .int (nI a) :: rest)) := lv_idiv hexec hb hdg (nI_ne0 h0 hb2) (by rw [pk_div ha h0 hb2]; exact k)
theorem k_irem (hexec : p.tables.exec = Jvm.exec) (hb : c.code = cc) {a b : Nat} (hdg : decode cc pc = .ok (.irem, 1)) (ha : a < 2 ^ 31) (h0 : 0 < b) (hb2 : b < 2 ^ 31) (k : W p l e R s m args below meth c H locs cells slots Q (F0 m (pc + 1) ls (.int (nI (a % b)) :: rest))) : W p l e R s m args below meth c H locs cells slots Q (F0 m pc ls (.int (nI b) :: .int (nI a) :: rest)) := lv_irem hexec hb hdg (nI_ne0 h0 hb2) (by rw [pk_rem ha h0 hb2]; exact k)
theorem k_lmul (hexec : p.tables.exec = Jvm.exec) (hb : c.code = cc) {a b : Nat} (hdg : decode cc pc = .ok (.lmul, 1)) (k : W p l e R s m args below meth c H locs cells slots Q (F0 m (pc + 1) ls (.long (lN (a * b)) :: rest))) : W p l e R s m args below meth c H locs cells slots Q (F0 m pc ls (.long (lN b) :: .long (lN a) :: rest)) := lv_lmul hexec hb hdg (by rw [lN_mul]; exact k)
theorem k_ladd (hexec : p.tables.exec = Jvm.exec) (hb : c.code = cc) {a b : Nat} (hdg : decode cc pc = .ok (.ladd, 1)) (k : W p l e R s m args below meth c H locs cells slots Q (F0 m (pc + 1) ls (.long (lN (a + b)) :: rest))) : W p l e R s m args below meth c H locs cells slots Q (F0 m pc ls (.long (lN b) :: .long (lN a) :: rest)) := lv_ladd hexec hb hdg (by rw [lN_add]; exact k)
theorem k_lsub (hexec : p.tables.exec = Jvm.exec) (hb : c.code = cc) {a b : Nat} (hdg : decode cc pc = .ok (.lsub, 1)) (h : b ≤ a) (k : W p l e R s m args below meth c H locs cells slots Q (F0 m (pc + 1) ls (.long (lN (a - b)) :: rest))) : W p l e R s m args below meth c H locs cells slots Q (F0 m pc ls (.long (lN b) :: .long (lN a) :: rest)) := lv_lsub hexec hb hdg (by rw [lN_sub h]; exact k)
theorem k_lne {b : Nat} (h0 : 0 < b) (hb : b < 2 ^ 63) : ¬ lN b = 0 := by
  intro h
  have h1 : (lN b).toInt = (0 : Int64).toInt := by rw [h]
  rw [pk_lT hb] at h1
  have h2 : (0 : Int64).toInt = 0 := by decide
  omega
theorem k_lrem (hexec : p.tables.exec = Jvm.exec) (hb : c.code = cc) {a b : Nat} (hdg : decode cc pc = .ok (.lrem, 1)) (ha : a < 2 ^ 63) (h0 : 0 < b) (hb2 : b < 2 ^ 63) (k : W p l e R s m args below meth c H locs cells slots Q (F0 m (pc + 1) ls (.long (lN (a % b)) :: rest))) : W p l e R s m args below meth c H locs cells slots Q (F0 m pc ls (.long (lN b) :: .long (lN a) :: rest)) := lv_lrem hexec hb hdg (k_lne h0 hb2) (by rw [pk_lRem ha h0 hb2]; exact k)
theorem k_ldiv (hexec : p.tables.exec = Jvm.exec) (hb : c.code = cc) {a b : Nat} (hdg : decode cc pc = .ok (.ldiv, 1)) (ha : a < 2 ^ 63) (h0 : 0 < b) (hb2 : b < 2 ^ 63) (k : W p l e R s m args below meth c H locs cells slots Q (F0 m (pc + 1) ls (.long (lN (a / b)) :: rest))) : W p l e R s m args below meth c H locs cells slots Q (F0 m pc ls (.long (lN b) :: .long (lN a) :: rest)) := lv_ldiv hexec hb hdg (k_lne h0 hb2) (by rw [pk_lDiv ha h0 hb2]; exact k)
theorem k_i2l (hexec : p.tables.exec = Jvm.exec) (hb : c.code = cc) {a : Nat} (hdg : decode cc pc = .ok (.i2l, 1)) (h : a < 2 ^ 31) (k : W p l e R s m args below meth c H locs cells slots Q (F0 m (pc + 1) ls (.long (lN a) :: rest))) : W p l e R s m args below meth c H locs cells slots Q (F0 m pc ls (.int (nI a) :: rest)) := lv_i2l hexec hb hdg (nI_l h) k
theorem k_icmp_ge (hexec : p.tables.exec = Jvm.exec) (hb : c.code = cc) {a b : Nat} {off : Int} {tgt : Nat} (hdg : decode cc pc = .ok (.if_icmp .ge off, 3)) (ht : (pc : Int) + off = (tgt : Int)) (ha : a < 2 ^ 31) (hb2 : b < 2 ^ 31)
    (kt : b ≤ a → W p l e R s m args below meth c H locs cells slots Q (F0 m tgt ls rest)) (kf : a < b → W p l e R s m args below meth c H locs cells slots Q (F0 m (pc + 3) ls rest)) : W p l e R s m args below meth c H locs cells slots Q (F0 m pc ls (.int (nI b) :: .int (nI a) :: rest)) :=
  lv_icmp_ge hexec hb hdg ht (fun h => kt ((nI_leI hb2 ha).mp h)) (fun h => kf (Nat.lt_of_not_le (fun q => h ((nI_leI hb2 ha).mpr q))))
theorem k_icmp_lt (hexec : p.tables.exec = Jvm.exec) (hb : c.code = cc) {a b : Nat} {off : Int} {tgt : Nat} (hdg : decode cc pc = .ok (.if_icmp .lt off, 3)) (ht : (pc : Int) + off = (tgt : Int)) (ha : a < 2 ^ 31) (hb2 : b < 2 ^ 31)
    (kt : a < b → W p l e R s m args below meth c H locs cells slots Q (F0 m tgt ls rest)) (kf : b ≤ a → W p l e R s m args below meth c H locs cells slots Q (F0 m (pc + 3) ls rest)) : W p l e R s m args below meth c H locs cells slots Q (F0 m pc ls (.int (nI b) :: .int (nI a) :: rest)) :=
  lv_icmp_lt hexec hb hdg ht (fun h => kt ((nI_ltI ha hb2).mp h)) (fun h => kf (Nat.le_of_not_lt (fun q => h ((nI_ltI ha hb2).mpr q))))
theorem k_icmp_le (hexec : p.tables.exec = Jvm.exec) (hb : c.code = cc) {a b : Nat} {off : Int} {tgt : Nat} (hdg : decode cc pc = .ok (.if_icmp .le off, 3)) (ht : (pc : Int) + off = (tgt : Int)) (ha : a < 2 ^ 31) (hb2 : b < 2 ^ 31)
    (kt : a ≤ b → W p l e R s m args below meth c H locs cells slots Q (F0 m tgt ls rest)) (kf : b < a → W p l e R s m args below meth c H locs cells slots Q (F0 m (pc + 3) ls rest)) : W p l e R s m args below meth c H locs cells slots Q (F0 m pc ls (.int (nI b) :: .int (nI a) :: rest)) :=
  lv_icmp_le hexec hb hdg ht (fun h => kt ((nI_leI ha hb2).mp h)) (fun h => kf (Nat.lt_of_not_le (fun q => h ((nI_leI ha hb2).mpr q))))
theorem k_icmp_ne (hexec : p.tables.exec = Jvm.exec) (hb : c.code = cc) {a b : Nat} {off : Int} {tgt : Nat} (hdg : decode cc pc = .ok (.if_icmp .ne off, 3)) (ht : (pc : Int) + off = (tgt : Int)) (ha : a < 2 ^ 31) (hb2 : b < 2 ^ 31)
    (kt : a ≠ b → W p l e R s m args below meth c H locs cells slots Q (F0 m tgt ls rest)) (kf : a = b → W p l e R s m args below meth c H locs cells slots Q (F0 m (pc + 3) ls rest)) : W p l e R s m args below meth c H locs cells slots Q (F0 m pc ls (.int (nI b) :: .int (nI a) :: rest)) :=
  lv_icmp_ne hexec hb hdg ht (fun h => kt (fun q => h (by rw [q]))) (fun h => kf ((nI_eq ha hb2).mp h))
theorem k_if_ne (hexec : p.tables.exec = Jvm.exec) (hb : c.code = cc) {a : Nat} {off : Int} {tgt : Nat} (hdg : decode cc pc = .ok (.ifCond .ne off, 3)) (ht : (pc : Int) + off = (tgt : Int)) (ha : a < 2 ^ 31)
    (kt : a ≠ 0 → W p l e R s m args below meth c H locs cells slots Q (F0 m tgt ls rest)) (kf : a = 0 → W p l e R s m args below meth c H locs cells slots Q (F0 m (pc + 3) ls rest)) : W p l e R s m args below meth c H locs cells slots Q (F0 m pc ls (.int (nI a) :: rest)) :=
  lv_if_ne hexec hb hdg ht (fun h => kt (fun q => h (by rw [q]; rfl))) (fun h => kf ((nI_eq (b := 0) ha (by decide)).mp h))
theorem k_if_eq (hexec : p.tables.exec = Jvm.exec) (hb : c.code = cc) {a : Nat} {off : Int} {tgt : Nat} (hdg : decode cc pc = .ok (.ifCond .eq off, 3)) (ht : (pc : Int) + off = (tgt : Int)) (ha : a < 2 ^ 31)
    (kt : a = 0 → W p l e R s m args below meth c H locs cells slots Q (F0 m tgt ls rest)) (kf : a ≠ 0 → W p l e R s m args below meth c H locs cells slots Q (F0 m (pc + 3) ls rest)) : W p l e R s m args below meth c H locs cells slots Q (F0 m pc ls (.int (nI a) :: rest)) :=
  lv_if_eq hexec hb hdg ht (fun h => kt ((nI_eq (b := 0) ha (by decide)).mp h)) (fun h => kf (fun q => h (by rw [q]; rfl)))
theorem k_lald (hexec : p.tables.exec = Jvm.exec) (hb : c.code = cc) (hK : va_K D cl tys s) (hP : va_P D cl ws H) (q0 t0 : Nat) {cA : ClassId} {n : Nat} {f : Nat → Int64} (ha : ws[q0]? = some (a, .inl (cA, n, .inr (.inl f)))) (ht : tys[t0]? = some (cA, .long)) {i : Nat} (hin : i < n) (hn : n < 2 ^ 31) (hdg : decode cc pc = .ok (.laload, 1))
    (kk : W p l e R s m args below meth c H locs cells slots Q (F0 m (pc + 1) ls (.long (f i) :: rest))) : W p l e R s m args below meth c H locs cells slots Q (F0 m pc ls (.int (nI i) :: .ref a :: rest)) :=
  va_lald hexec hb hK hP q0 t0 ha ht (vp_in_nI hin hn) hdg (by rw [nI_clamp (by omega)]; exact kk)
theorem k_iald (hexec : p.tables.exec = Jvm.exec) (hb : c.code = cc) (hK : va_K D cl tys s) (hP : va_P D cl ws H) (q0 t0 : Nat) {cA : ClassId} {n : Nat} {f : Nat → Int32} (ha : ws[q0]? = some (a, .inl (cA, n, .inl f))) (ht : tys[t0]? = some (cA, .int)) {i : Nat} (hin : i < n) (hn : n < 2 ^ 31) (hdg : decode cc pc = .ok (.iaload, 1))
    (kk : W p l e R s m args below meth c H locs cells slots Q (F0 m (pc + 1) ls (.int (f i) :: rest))) : W p l e R s m args below meth c H locs cells slots Q (F0 m pc ls (.int (nI i) :: .ref a :: rest)) :=
  va_iald hexec hb hK hP q0 t0 ha ht (vp_in_nI hin hn) hdg (by rw [nI_clamp (by omega)]; exact kk)
theorem k_last (hexec : p.tables.exec = Jvm.exec) (hb : c.code = cc) (hK : va_K D cl tys s) (hP : va_P D cl ws H) (hD : va_D A ws) (hS : va_S A H0 H locs) (q0 t0 : Nat) {cA : ClassId} {n : Nat} {f : Nat → Int64} (ha : ws[q0]? = some (a, .inl (cA, n, .inr (.inl f)))) (ht : tys[t0]? = some (cA, .long)) {i : Nat} {x : Int64} (hin : i < n) (hn : n < 2 ^ 31) (hdg : decode cc pc = .ok (.lastore, 1))
    (kk : ∀ (H1 : Heap) (locs1 : List Loc), va_P D cl (ws.set q0 (a, .inl (cA, n, .inr (.inl (vp_updL f i x))))) H1 → va_D A (ws.set q0 (a, .inl (cA, n, .inr (.inl (vp_updL f i x))))) → va_S A H0 H1 locs1 → W p l e R s m args below meth c H1 locs1 cells slots Q (F0 m (pc + 1) ls rest)) : W p l e R s m args below meth c H locs cells slots Q (F0 m pc ls (.long x :: .int (nI i) :: .ref a :: rest)) := by
  refine va_last hexec hb hK hP hD hS q0 t0 ha ht (vp_in_nI hin hn) hdg ?_
  rw [nI_clamp (by omega)]
  exact kk
theorem k_iast (hexec : p.tables.exec = Jvm.exec) (hb : c.code = cc) (hK : va_K D cl tys s) (hP : va_P D cl ws H) (hD : va_D A ws) (hS : va_S A H0 H locs) (q0 t0 : Nat) {cA : ClassId} {n : Nat} {f : Nat → Int32} (ha : ws[q0]? = some (a, .inl (cA, n, .inl f))) (ht : tys[t0]? = some (cA, .int)) {i : Nat} {x : Int32} (hin : i < n) (hn : n < 2 ^ 31) (hdg : decode cc pc = .ok (.iastore, 1))
    (kk : ∀ (H1 : Heap) (locs1 : List Loc), va_P D cl (ws.set q0 (a, .inl (cA, n, .inl (upd f i x)))) H1 → va_D A (ws.set q0 (a, .inl (cA, n, .inl (upd f i x)))) → va_S A H0 H1 locs1 → W p l e R s m args below meth c H1 locs1 cells slots Q (F0 m (pc + 1) ls rest)) : W p l e R s m args below meth c H locs cells slots Q (F0 m pc ls (.int x :: .int (nI i) :: .ref a :: rest)) := by
  refine va_iast hexec hb hK hP hD hS q0 t0 ha ht (vp_in_nI hin hn) hdg ?_
  rw [nI_clamp (by omega)]
  exact kk
end KR
theorem k_inc (a : Nat) : nI a + Int32.ofInt 1 = nI (a + 1) := nI_1 a
/-- two array classes of one kind are one -/
theorem k_sameJ {D : va_G} {cl : List vw_C} {c1 c2 : ClassId} {U : State} {tys : k_T} (h : va_K D cl tys U) (i j : Nat) (hi : tys[i]? = some (c1, .long)) (hj : tys[j]? = some (c2, .long)) : c1 = c2 := by
  have h1 : U.vm.findClass ("[" ++ FieldType.long.toString) = some c1 := (h.2 i _ hi).2
  have h2 : U.vm.findClass ("[" ++ FieldType.long.toString) = some c2 := (h.2 j _ hj).2
  rw [h1] at h2
  exact Option.some.inj h2
theorem k_sameI {D : va_G} {cl : List vw_C} {c1 c2 : ClassId} {U : State} {tys : k_T} (h : va_K D cl tys U) (i j : Nat) (hi : tys[i]? = some (c1, .int)) (hj : tys[j]? = some (c2, .int)) : c1 = c2 := by
  have h1 : U.vm.findClass ("[" ++ FieldType.int.toString) = some c1 := (h.2 i _ hi).2
  have h2 : U.vm.findClass ("[" ++ FieldType.int.toString) = some c2 := (h.2 j _ hj).2
  rw [h1] at h2
  exact Option.some.inj h2
end
section
/-! calls with their frame: the callee's cells wc lie at isC among ws, the rest wr at isR; behind the call the cells are wo u -/
section KC
variable {p : Program} {l : Launch} {e : Env} {R : Room} {s : State} {m : MethodId} {args : Array Value} {below : List Frame} {meth : Method} {c : Code} {H : Heap} {locs : List Loc} {cells slots : Nat} {Q : State → Prop}
variable {cc : ByteArray} {pc : Nat} {ls : Array Slot} {rest st0 : List Value} {D : va_G} {A : Nat → Prop} {tys tc : k_T} {wc wr ws : va_W} {y0 y : MethodName} {nL maxL idx n b : Nat} {ret0 : Option FieldType} {bytes : ByteArray} {rm : Room} {As : List Value} {own C : String}
theorem k_cVv {S : Type} {post : S → Prop} {wn wo : S → va_W} {tn : S → k_T} {mc ms : Nat} (Cx : k_C p s m args meth c y0 cc nL ret0) (ho : y0.cls = own) (hM : k_Mv l y bytes maxL rm D (.ref b :: As) wc tc post wn tn mc ms) (cw : CallW R s args own C idx y bytes maxL none (ws_ y bytes maxL none) rm mc ms n)
    (hK : va_K D vwCl tys s) (hP : va_P D vwCl ws H) (hD : va_D A ws) (hS : va_S A s.heap H locs) (hA : ∀ q : Nat, s.heap.size ≤ q → A q) (q0 ci : Nat) {qc : vw_C} {fs : List Value} (hcl : vwCl[ci]? = some qc) (hC1 : qc.1 = C) (hrv : wc[q0]? = some (b, .inr (ci, fs)))
    (isT : List Nat) (hT : isT.filterMap (fun i => tys[i]?) = tc) (isC isR : List Nat) (hC : isC.map (fun i => ws[i]?) = wc.map some) (hCn : va_nd isC = true) (hR : isR.map (fun i => ws[i]?) = wr.map some) (hRn : va_nd isR = true) (hdis : ∀ i ∈ isR, i ∉ isC)
    (isO : List Nat) (hO : ∀ u, isO.map (fun i => (wr ++ wn u)[i]?) = (wo u).map some) (hOn : va_nd isO = true) (hlen : As.length = n) (hls : ls.size = nL) (hst : st0 = As.reverse ++ .ref b :: rest) (hroom : (rest.map fun v => v.category).sum ≤ 8) (hdg : decode cc pc = .ok (.invokevirtual idx, 3)) (hf : cells + mc ≤ R.cells ∧ slots + ms ≤ R.slots)
    (kk : ∀ (u : S) (H1 : Heap) (locs1 : List Loc), post u → va_P D vwCl (wo u) H1 → va_D A (wo u) → va_K D vwCl (tn u) s → va_S A s.heap H1 locs1 → W p l e R s m args below meth c H1 locs1 (cells + mc) (slots + ms) Q (F0 m (pc + 3) ls rest)) :
    W p l e R s m args below meth c H locs cells slots Q (F0 m pc ls st0) := by
  obtain ⟨hx, hb, hml, hr, hlocks, hown, hin, hts⟩ := Cx
  subst ho
  have hPc := hP.sub (ws' := wc) isC (k_fm _ _ _ hC)
  have hDc := hD.sub (ws' := wc) isC hCn hC
  have hKc := hK.sub (tys' := tc) isT hT
  have hFc := va_free (wc := wc) hD hS hA isC hC
  refine va_callv (va_runV (As := As) (rest := rest) ⟨hx, hb, hml, hown, hts⟩ (hM H.size) cw ⟨fun a U g mk q => by obtain ⟨q0, q1, qP, qK, qD⟩ := q; exact ⟨q0, q1, qP, va_K.moved (u := U) (U := U.calling g mk a) (Vm.Alike.refl U.vm) qK, qD⟩, (by rw [← hC1]; exact va_recv hKc hPc hcl hrv), fun U hU hW => ⟨rfl, by rw [hU], by rw [hU]; exact hPc, va_K.moved hW.alike hKc, hDc.weaken (fun _ _ _ _ => trivial)⟩⟩ rfl hlen hls hst (lv_room hroom) hdg hf) hS (fun q _ h => hFc q h) hFc (fun u t H1 locs1 ht hvm hw hB hz1 hk1 hS1 => ?_)
  obtain ⟨hP1, hK1, hD1⟩ := hB
  rw [ht] at hP1
  obtain ⟨hP2, hD2⟩ := va_join (wr := wr) (w1 := wn u) hP hD isC isR hC hR hRn hdis hk1 hFc hP1 hD1
  exact kk u H1 locs1 hw (hP2.sub isO (k_fm _ _ _ (hO u))) (hD2.sub isO hOn (hO u)) (va_K.moved hvm.symm hK1) hS1
theorem k_cVi {S : Type} {post : Int32 → S → Prop} {wn wo : S → va_W} {ret : Option FieldType} (Cx : k_C p s m args meth c y0 cc nL ret0) (ho : y0.cls = own) (hM : k_Mi l y bytes maxL ret rm D (.ref b :: As) wc tc post wn) (cw : CallW R s args own C idx y bytes maxL ret (ws_ y bytes maxL ret) rm 0 0 n)
    (hK : va_K D vwCl tys s) (hP : va_P D vwCl ws H) (hD : va_D A ws) (hS : va_S A s.heap H locs) (hA : ∀ q : Nat, s.heap.size ≤ q → A q) (q0 ci : Nat) {qc : vw_C} {fs : List Value} (hcl : vwCl[ci]? = some qc) (hC1 : qc.1 = C) (hrv : wc[q0]? = some (b, .inr (ci, fs)))
    (isT : List Nat) (hT : isT.filterMap (fun i => tys[i]?) = tc) (isC isR : List Nat) (hC : isC.map (fun i => ws[i]?) = wc.map some) (hCn : va_nd isC = true) (hR : isR.map (fun i => ws[i]?) = wr.map some) (hRn : va_nd isR = true) (hdis : ∀ i ∈ isR, i ∉ isC)
    (isO : List Nat) (hO : ∀ u, isO.map (fun i => (wr ++ wn u)[i]?) = (wo u).map some) (hOn : va_nd isO = true) (hlen : As.length = n) (hls : ls.size = nL) (hst : st0 = As.reverse ++ .ref b :: rest) (hroom : (rest.map fun v => v.category).sum ≤ 8) (hdg : decode cc pc = .ok (.invokevirtual idx, 3)) (hf : cells ≤ R.cells ∧ slots ≤ R.slots)
    (kk : ∀ (r : Int32) (u : S) (H1 : Heap) (locs1 : List Loc), post r u → va_P D vwCl (wo u) H1 → va_D A (wo u) → va_S A s.heap H1 locs1 → W p l e R s m args below meth c H1 locs1 cells slots Q (F0 m (pc + 3) ls (.int r :: rest))) :
    W p l e R s m args below meth c H locs cells slots Q (F0 m pc ls st0) := by
  obtain ⟨hx, hb, hml, hr, hlocks, hown, hin, hts⟩ := Cx
  subst ho
  have hPc := hP.sub (ws' := wc) isC (k_fm _ _ _ hC)
  have hDc := hD.sub (ws' := wc) isC hCn hC
  have hKc := hK.sub (tys' := tc) isT hT
  have hFc := va_free (wc := wc) hD hS hA isC hC
  refine va_calli (va_runV (As := As) (rest := rest) ⟨hx, hb, hml, hown, hts⟩ (hM H.size) cw ⟨fun a U g mk q => by obtain ⟨q0, q1, qP, qK, qD⟩ := q; exact ⟨q0, q1, qP, va_K.moved (u := U) (U := U.calling g mk a) (Vm.Alike.refl U.vm) qK, qD⟩, (by rw [← hC1]; exact va_recv hKc hPc hcl hrv), fun U hU hW => ⟨rfl, by rw [hU], by rw [hU]; exact hPc, va_K.moved hW.alike hKc, hDc.weaken (fun _ _ _ _ => trivial)⟩⟩ rfl hlen hls hst (lv_room hroom) hdg hf) hS (fun q _ h => hFc q h) hFc (fun r u t H1 locs1 ht hvm hw hB hz1 hk1 hS1 => ?_)
  obtain ⟨hP1, hK1, hD1⟩ := hB
  rw [ht] at hP1
  obtain ⟨hP2, hD2⟩ := va_join (wr := wr) (w1 := wn u) hP hD isC isR hC hR hRn hdis hk1 hFc hP1 hD1
  exact kk r u H1 locs1 hw (hP2.sub isO (k_fm _ _ _ (hO u))) (hD2.sub isO hOn (hO u)) hS1
theorem k_cVl {S : Type} {post : Int64 → S → Prop} {wn wo : S → va_W} (Cx : k_C p s m args meth c y0 cc nL ret0) (ho : y0.cls = own) (hM : k_Ml l y bytes maxL rm D (.ref b :: As) wc tc post wn) (cw : CallW R s args own C idx y bytes maxL (some .long) (ws_ y bytes maxL (some .long)) rm 0 0 n)
    (hK : va_K D vwCl tys s) (hP : va_P D vwCl ws H) (hD : va_D A ws) (hS : va_S A s.heap H locs) (hA : ∀ q : Nat, s.heap.size ≤ q → A q) (q0 ci : Nat) {qc : vw_C} {fs : List Value} (hcl : vwCl[ci]? = some qc) (hC1 : qc.1 = C) (hrv : wc[q0]? = some (b, .inr (ci, fs)))
    (isT : List Nat) (hT : isT.filterMap (fun i => tys[i]?) = tc) (isC isR : List Nat) (hC : isC.map (fun i => ws[i]?) = wc.map some) (hCn : va_nd isC = true) (hR : isR.map (fun i => ws[i]?) = wr.map some) (hRn : va_nd isR = true) (hdis : ∀ i ∈ isR, i ∉ isC)
    (isO : List Nat) (hO : ∀ u, isO.map (fun i => (wr ++ wn u)[i]?) = (wo u).map some) (hOn : va_nd isO = true) (hlen : As.length = n) (hls : ls.size = nL) (hst : st0 = As.reverse ++ .ref b :: rest) (hroom : (rest.map fun v => v.category).sum ≤ 8) (hdg : decode cc pc = .ok (.invokevirtual idx, 3)) (hf : cells ≤ R.cells ∧ slots ≤ R.slots)
    (kk : ∀ (r : Int64) (u : S) (H1 : Heap) (locs1 : List Loc), post r u → va_P D vwCl (wo u) H1 → va_D A (wo u) → va_S A s.heap H1 locs1 → W p l e R s m args below meth c H1 locs1 cells slots Q (F0 m (pc + 3) ls (.long r :: rest))) :
    W p l e R s m args below meth c H locs cells slots Q (F0 m pc ls st0) := by
  obtain ⟨hx, hb, hml, hr, hlocks, hown, hin, hts⟩ := Cx
  subst ho
  have hPc := hP.sub (ws' := wc) isC (k_fm _ _ _ hC)
  have hDc := hD.sub (ws' := wc) isC hCn hC
  have hKc := hK.sub (tys' := tc) isT hT
  have hFc := va_free (wc := wc) hD hS hA isC hC
  refine va_calll (va_runV (As := As) (rest := rest) ⟨hx, hb, hml, hown, hts⟩ (hM H.size) cw ⟨fun a U g mk q => by obtain ⟨q0, q1, qP, qK, qD⟩ := q; exact ⟨q0, q1, qP, va_K.moved (u := U) (U := U.calling g mk a) (Vm.Alike.refl U.vm) qK, qD⟩, (by rw [← hC1]; exact va_recv hKc hPc hcl hrv), fun U hU hW => ⟨rfl, by rw [hU], by rw [hU]; exact hPc, va_K.moved hW.alike hKc, hDc.weaken (fun _ _ _ _ => trivial)⟩⟩ rfl hlen hls hst (lv_room hroom) hdg hf) hS (fun q _ h => hFc q h) hFc (fun r u t H1 locs1 ht hvm hw hB hz1 hk1 hS1 => ?_)
  obtain ⟨hP1, hK1, hD1⟩ := hB
  rw [ht] at hP1
  obtain ⟨hP2, hD2⟩ := va_join (wr := wr) (w1 := wn u) hP hD isC isR hC hR hRn hdis hk1 hFc hP1 hD1
  exact kk r u H1 locs1 hw (hP2.sub isO (k_fm _ _ _ (hO u))) (hD2.sub isO hOn (hO u)) hS1
theorem k_cSi {S : Type} {post : Int32 → S → Prop} {wn wo : S → va_W} {ret : Option FieldType} (Cx : k_C p s m args meth c y0 cc nL ret0) (ho : y0.cls = own) (hM : k_Mi l y bytes maxL ret rm D As wc tc post wn) (cw : CallB R s args own idx y bytes maxL ret (ws_ y bytes maxL ret) rm 0 0 n ∧ (Cond.static y).before args s = true)
    (hK : va_K D vwCl tys s) (hP : va_P D vwCl ws H) (hD : va_D A ws) (hS : va_S A s.heap H locs) (hA : ∀ q : Nat, s.heap.size ≤ q → A q)
    (isT : List Nat) (hT : isT.filterMap (fun i => tys[i]?) = tc) (isC isR : List Nat) (hC : isC.map (fun i => ws[i]?) = wc.map some) (hCn : va_nd isC = true) (hR : isR.map (fun i => ws[i]?) = wr.map some) (hRn : va_nd isR = true) (hdis : ∀ i ∈ isR, i ∉ isC)
    (isO : List Nat) (hO : ∀ u, isO.map (fun i => (wr ++ wn u)[i]?) = (wo u).map some) (hOn : va_nd isO = true) (hlen : As.length = n) (hls : ls.size = nL) (hst : st0 = As.reverse ++ rest) (hroom : (rest.map fun v => v.category).sum ≤ 8) (hdg : decode cc pc = .ok (.invokestatic idx, 3)) (hf : cells ≤ R.cells ∧ slots ≤ R.slots)
    (kk : ∀ (r : Int32) (u : S) (H1 : Heap) (locs1 : List Loc), post r u → va_P D vwCl (wo u) H1 → va_D A (wo u) → va_S A s.heap H1 locs1 → W p l e R s m args below meth c H1 locs1 cells slots Q (F0 m (pc + 3) ls (.int r :: rest))) :
    W p l e R s m args below meth c H locs cells slots Q (F0 m pc ls st0) := by
  obtain ⟨hx, hb, hml, hr, hlocks, hown, hin, hts⟩ := Cx
  subst ho
  have hPc := hP.sub (ws' := wc) isC (k_fm _ _ _ hC)
  have hDc := hD.sub (ws' := wc) isC hCn hC
  have hKc := hK.sub (tys' := tc) isT hT
  have hFc := va_free (wc := wc) hD hS hA isC hC
  refine va_calli (va_runS (As := As) (rest := rest) ⟨hx, hb, hml, hown, hts⟩ (hM H.size) cw ⟨fun a U g mk q => by obtain ⟨q0, q1, qP, qK, qD⟩ := q; exact ⟨q0, q1, qP, va_K.moved (u := U) (U := U.calling g mk a) (Vm.Alike.refl U.vm) qK, qD⟩, fun U hU hW => ⟨rfl, by rw [hU], by rw [hU]; exact hPc, va_K.moved hW.alike hKc, hDc.weaken (fun _ _ _ _ => trivial)⟩⟩ rfl hlen hls hst (lv_room hroom) hdg hf) hS (fun q _ h => hFc q h) hFc (fun r u t H1 locs1 ht hvm hw hB hz1 hk1 hS1 => ?_)
  obtain ⟨hP1, hK1, hD1⟩ := hB
  rw [ht] at hP1
  obtain ⟨hP2, hD2⟩ := va_join (wr := wr) (w1 := wn u) hP hD isC isR hC hR hRn hdis hk1 hFc hP1 hD1
  exact kk r u H1 locs1 hw (hP2.sub isO (k_fm _ _ _ (hO u))) (hD2.sub isO hOn (hO u)) hS1
theorem k_cIv {S : Type} {post : S → Prop} {wn wo : S → va_W} {tn : S → k_T} {mc ms : Nat} (Cx : k_C p s m args meth c y0 cc nL ret0) (ho : y0.cls = own) (hM : k_Mv l y bytes maxL rm D (.ref b :: As) wc tc post wn tn mc ms) (cw : CallB R s args own idx y bytes maxL none (ws_ y bytes maxL none) rm mc ms n ∧ y.name = "<init>" ∧ (Cond.instanceMethod y).before args s = true)
    (hK : va_K D vwCl tys s) (hP : va_P D vwCl ws H) (hD : va_D A ws) (hS : va_S A s.heap H locs) (hA : ∀ q : Nat, s.heap.size ≤ q → A q)
    (isT : List Nat) (hT : isT.filterMap (fun i => tys[i]?) = tc) (isC isR : List Nat) (hC : isC.map (fun i => ws[i]?) = wc.map some) (hCn : va_nd isC = true) (hR : isR.map (fun i => ws[i]?) = wr.map some) (hRn : va_nd isR = true) (hdis : ∀ i ∈ isR, i ∉ isC)
    (isO : List Nat) (hO : ∀ u, isO.map (fun i => (wr ++ wn u)[i]?) = (wo u).map some) (hOn : va_nd isO = true) (hlen : As.length = n) (hls : ls.size = nL) (hst : st0 = As.reverse ++ .ref b :: rest) (hroom : (rest.map fun v => v.category).sum ≤ 8) (hdg : decode cc pc = .ok (.invokespecial idx, 3)) (hf : cells + mc ≤ R.cells ∧ slots + ms ≤ R.slots)
    (kk : ∀ (u : S) (H1 : Heap) (locs1 : List Loc), post u → va_P D vwCl (wo u) H1 → va_D A (wo u) → va_K D vwCl (tn u) s → va_S A s.heap H1 locs1 → W p l e R s m args below meth c H1 locs1 (cells + mc) (slots + ms) Q (F0 m (pc + 3) ls rest)) :
    W p l e R s m args below meth c H locs cells slots Q (F0 m pc ls st0) := by
  obtain ⟨hx, hb, hml, hr, hlocks, hown, hin, hts⟩ := Cx
  subst ho
  have hPc := hP.sub (ws' := wc) isC (k_fm _ _ _ hC)
  have hDc := hD.sub (ws' := wc) isC hCn hC
  have hKc := hK.sub (tys' := tc) isT hT
  have hFc := va_free (wc := wc) hD hS hA isC hC
  refine va_callv (va_runI (As := As) (rest := rest) ⟨hx, hb, hml, hown, hts⟩ (hM H.size) cw ⟨fun a U g mk q => by obtain ⟨q0, q1, qP, qK, qD⟩ := q; exact ⟨q0, q1, qP, va_K.moved (u := U) (U := U.calling g mk a) (Vm.Alike.refl U.vm) qK, qD⟩, fun U hU hW => ⟨rfl, by rw [hU], by rw [hU]; exact hPc, va_K.moved hW.alike hKc, hDc.weaken (fun _ _ _ _ => trivial)⟩⟩ rfl hlen hls hst (lv_room hroom) hdg hf) hS (fun q _ h => hFc q h) hFc (fun u t H1 locs1 ht hvm hw hB hz1 hk1 hS1 => ?_)
  obtain ⟨hP1, hK1, hD1⟩ := hB
  rw [ht] at hP1
  obtain ⟨hP2, hD2⟩ := va_join (wr := wr) (w1 := wn u) hP hD isC isR hC hR hRn hdis hk1 hFc hP1 hD1
  exact kk u H1 locs1 hw (hP2.sub isO (k_fm _ _ _ (hO u))) (hD2.sub isO hOn (hO u)) (va_K.moved hvm.symm hK1) hS1
end KC
end
section
/-! numbers at the machine: bits of small numbers (rows fa_, fb_, pf_, s_l pasted from kit/laws), long remainders, shifts -/
theorem fa_and (a b : Nat) : nI a &&& nI b = nI (a &&& b) := by
  apply Int32.toBitVec_inj.1
  show BitVec.ofNat 32 a &&& BitVec.ofNat 32 b = BitVec.ofNat 32 (a &&& b)
  apply BitVec.eq_of_getLsbD_eq
  intro i hi
  simp [hi]
theorem fa_or (a b : Nat) : nI a ||| nI b = nI (a ||| b) := by
  apply Int32.toBitVec_inj.1
  show BitVec.ofNat 32 a ||| BitVec.ofNat 32 b = BitVec.ofNat 32 (a ||| b)
  apply BitVec.eq_of_getLsbD_eq
  intro i hi
  simp [hi]
/-- a remainder by a power of two, as a mask -/
theorem fa_mask (n k : Nat) : nI n &&& nI (2 ^ k - 1) = nI (n % 2 ^ k) := by rw [fa_and, Nat.and_two_pow_sub_one_eq_mod]
/-- 'or' of a high part and a low one that don't meet is their sum -/
theorem fa_or_sum {a k : Nat} (b : Nat) (h : a < 2 ^ k) : nI (2 ^ k * b) ||| nI a = nI (2 ^ k * b + a) := by rw [fa_or, Nat.two_pow_add_eq_or_of_lt h]
theorem fb_andL (a b : Nat) : lN a &&& lN b = lN (a &&& b) := by
  apply Int64.toBitVec_inj.1
  show BitVec.ofNat 64 a &&& BitVec.ofNat 64 b = BitVec.ofNat 64 (a &&& b)
  apply BitVec.eq_of_getLsbD_eq
  intro i hi
  simp [hi]
theorem fb_maskL (n k : Nat) : lN n &&& lN (2 ^ k - 1) = lN (n % 2 ^ k) := by rw [fb_andL, Nat.and_two_pow_sub_one_eq_mod]
theorem pf_lI {a : Nat} (h : a < 2 ^ 63) : (lN a).toInt = (a : Int) := lg_ofNat_toInt h
theorem pf_shr {a d : Nat} {D : Int64} (hD : (D.toBitVec.smod 64).toNat = d) (h : a < 2 ^ 62) : lN a >>> D = lN (a / 2 ^ d) := by
  have hd : a / 2 ^ d ≤ a := Nat.div_le_self _ _
  apply Int64.toInt_inj.mp
  have e : (lN a >>> D).toInt = (lN a).toInt >>> d := by
    rw [← hD]
    exact BitVec.toInt_sshiftRight ..
  rw [e, Int.shiftRight_eq_div_pow, pf_lI (by omega), pf_lI (by omega)]
  rfl
theorem s_l : ∀ n, n < 32 → ((nI n &&& 31).toBitVec.smod 32).toNat = n := by decide +kernel
theorem k_and1 (a : Nat) : lN a &&& lN 1 = lN (a % 2) := fb_maskL a 1
theorem k_shr1 {a : Nat} (h : a < 2 ^ 62) : lN a >>> ((nI 1).toInt64 &&& 63) = lN (a / 2) := pf_shr (d := 1) (by decide) h
theorem k_iand1 (a : Nat) : nI a &&& nI 1 = nI (a % 2) := fa_mask a 1
theorem k_shl {n k : Nat} (hk : k < 31) (h : n * 2 ^ k < 2 ^ 32) : nI n <<< (nI k &&& 31) = nI (n * 2 ^ k) := pk_shlN _ k (s_l k (by omega)) h
theorem k_shr {n k : Nat} (hn : n < 2 ^ 31) (hk : k < 31) : nI n >>> (nI k &&& 31) = nI (n / 2 ^ k) := pk_shrN hn _ k (s_l k (by omega))
theorem k_1shl {k : Nat} (hk : k < 31) : nI 1 <<< (nI k &&& 31) = nI (2 ^ k) := by
  rw [k_shl hk (by rw [Nat.one_mul]; exact Nat.pow_lt_pow_right (by decide) (by omega)), Nat.one_mul]
/-- lN a - lN b + lN q -/
theorem k_lsa {a b q : Nat} (h : b ≤ a + q) : lN a - lN b + lN q = lN (a + q - b) := by
  rw [← lN_sub h, ← lN_add]
  grind
/-- longs as wrapped integers -/
abbrev lI (z : Int) : Int64 := Int64.ofInt z
theorem lI_nat (n : Nat) : lN n = lI (n : Int) := (Int64.ofInt_eq_ofNat).symm
theorem lI_i2l (x : Int32) : x.toInt64 = lI x.toInt := (Int64.ofInt_int32ToInt x).symm
theorem lI_add (a b : Int) : lI a + lI b = lI (a + b) := (Int64.ofInt_add a b).symm
theorem lI_sub (a b : Int) : lI a - lI b = lI (a - b) := (Int64.ofInt_sub a b).symm
theorem lI_mul (a b : Int) : lI a * lI b = lI (a * b) := (Int64.ofInt_mul a b).symm
theorem lI_toInt {z : Int} (h1 : -(2 ^ 63) ≤ z) (h2 : z < 2 ^ 63) : (lI z).toInt = z := Int64.toInt_ofInt_of_le h1 h2
/-- Ring.of: the remainder, mended -/
theorem k_of {z : Int} {P : Nat} (h1 : -(2 ^ 62) ≤ z) (h2 : z ≤ 2 ^ 62) (hP : 1 < P) (hP2 : P < 2 ^ 30) :
    lI z - lI z / lN P * lN P = lI (Int.tmod z P) ∧ -(2 ^ 30) < Int.tmod z P ∧ Int.tmod z P < 2 ^ 30 ∧ (if Int.tmod z P < 0 then Int.tmod z P + P else Int.tmod z P) = ((z % (P : Int)).toNat : Int) := by
  have hPi : (1 : Int) < P := by omega
  have e1 : lI z / lN P = lI (Int.tdiv z P) := by
    apply Int64.toInt_inj.mp
    have hd := Int.natAbs_tdiv_le_natAbs z P
    rw [Int64.toInt_div_of_ne_right _ _ (by
      intro q
      have q1 : (lN P).toInt = (-1 : Int64).toInt := by rw [q]
      rw [pk_lT (by omega)] at q1
      have q2 : (-1 : Int64).toInt = -1 := by decide
      omega), lI_toInt (by omega) (by omega), pk_lT (by omega), lI_toInt (by omega) (by omega)]
  have e2 := Int.tmod_add_mul_tdiv z P
  have a1 := Int.emod_nonneg z (show (P : Int) ≠ 0 by omega)
  have a2 := Int.emod_lt_of_pos z (show (0 : Int) < P by omega)
  have a3 := Int.tmod_lt_of_pos z (show (0 : Int) < P by omega)
  have a4 := Int.lt_tmod_of_pos z (show (0 : Int) < P by omega)
  have e3 : (if Int.tmod z P < 0 then Int.tmod z P + P else Int.tmod z P) = z % (P : Int) := by
    have h := Int.tmod_eq_emod (a := z) (b := (P : Int))
    rw [Int.natAbs_natCast] at h
    split at h
    · rw [if_neg (by omega)]; omega
    · rw [if_pos (by omega)]; omega
  refine ⟨?_, by omega, by omega, by rw [e3]; omega⟩
  rw [e1, lI_nat P, lI_mul, lI_sub]
  congr 1
  rw [Int.mul_comm]
  omega
end
section
/-! pure numbers: finite sums and congruence of integers -/
def nt_s : Nat → (Nat → Int) → Int
  | 0, _ => 0
  | n + 1, f => nt_s n f + f n
theorem nt_s0 (f : Nat → Int) : nt_s 0 f = 0 := rfl
theorem nt_s1 (n : Nat) (f : Nat → Int) : nt_s (n + 1) f = nt_s n f + f n := rfl
theorem nt_s_congr {n : Nat} {f g : Nat → Int} (h : ∀ i, i < n → f i = g i) : nt_s n f = nt_s n g := by
  induction n with
  | zero => rfl
  | succ n ih => rw [nt_s1, nt_s1, ih (fun i hi => h i (by omega)), h n (by omega)]
theorem nt_s_add (n : Nat) (f g : Nat → Int) : nt_s n (fun i => f i + g i) = nt_s n f + nt_s n g := by
  induction n with
  | zero => rfl
  | succ n ih => rw [nt_s1, nt_s1, nt_s1, ih]; omega
theorem nt_s_mul (n : Nat) (c : Int) (f : Nat → Int) : nt_s n (fun i => c * f i) = c * nt_s n f := by
  induction n with
  | zero => rw [nt_s0, nt_s0, Int.mul_zero]
  | succ n ih => rw [nt_s1, nt_s1, ih, Int.mul_add]
theorem nt_s_zero (n : Nat) : nt_s n (fun _ => 0) = 0 := by
  induction n with
  | zero => rfl
  | succ n ih => rw [nt_s1, ih]; rfl
theorem nt_s_all0 {n : Nat} {f : Nat → Int} (h : ∀ i, i < n → f i = 0) : nt_s n f = 0 := (nt_s_congr (g := fun _ => 0) h).trans (nt_s_zero n)
theorem nt_s_swap (n m : Nat) (F : Nat → Nat → Int) : nt_s n (fun i => nt_s m (fun j => F i j)) = nt_s m (fun j => nt_s n (fun i => F i j)) := by
  induction n with
  | zero => rw [nt_s0]; exact (nt_s_all0 (fun i _ => rfl)).symm
  | succ n ih =>
    rw [nt_s1, ih, ← nt_s_add]
    rfl
theorem nt_s_split (n m : Nat) (f : Nat → Int) : nt_s (n + m) f = nt_s n f + nt_s m (fun i => f (n + i)) := by
  induction m with
  | zero => rw [nt_s0, Nat.add_zero]; omega
  | succ m ih => rw [← Nat.add_assoc, nt_s1, nt_s1, ih]; omega
theorem nt_s_two (n : Nat) (f : Nat → Int) : nt_s (2 * n) f = nt_s n (fun t => f (2 * t)) + nt_s n (fun t => f (2 * t + 1)) := by
  induction n with
  | zero => rfl
  | succ n ih =>
    rw [show 2 * (n + 1) = 2 * n + 1 + 1 by omega, nt_s1, nt_s1, nt_s1, nt_s1, ih]
    omega
theorem nt_s_pick {n k : Nat} (hk : k < n) {f : Nat → Int} (h : ∀ i, i < n → i ≠ k → f i = 0) : nt_s n f = f k := by
  induction n with
  | zero => omega
  | succ n ih =>
    rw [nt_s1]
    rcases Nat.lt_or_ge k n with q | q
    · rw [ih q (fun i hi hne => h i (by omega) hne), h n (by omega) (by omega)]; omega
    · have e : k = n := by omega
      subst e
      rw [nt_s_all0 (fun i hi => h i (by omega) (by omega))]; omega
/-- the sum of a few is the sum of more, the others 0 -/
theorem nt_s_ext {n m : Nat} (h : n ≤ m) {f : Nat → Int} (h0 : ∀ i, n ≤ i → i < m → f i = 0) : nt_s m f = nt_s n f := by
  obtain ⟨d, rfl⟩ : ∃ d, m = n + d := ⟨m - n, by omega⟩
  rw [nt_s_split, nt_s_all0 (fun i hi => h0 (n + i) (by omega) (by omega))]
  omega
/-- a bound of a sum -/
theorem nt_s_bound {n : Nat} {f : Nat → Int} {B : Int} (h : ∀ i, i < n → -B ≤ f i ∧ f i ≤ B) : -(n * B) ≤ nt_s n f ∧ nt_s n f ≤ n * B := by
  induction n with
  | zero => rw [nt_s0]; omega
  | succ n ih =>
    obtain ⟨h1, h2⟩ := ih (fun i hi => h i (by omega))
    obtain ⟨h3, h4⟩ := h n (by omega)
    have e : ((n + 1 : Nat) : Int) * B = n * B + B := by rw [Int.natCast_add, Int.add_mul]; omega
    rw [nt_s1, e]
    omega
/-- congruence mod p -/
def nt_c (p : Nat) (a b : Int) : Prop := (p : Int) ∣ a - b
theorem nt_c_rf (p : Nat) (a : Int) : nt_c p a a := ⟨0, by omega⟩
theorem nt_c_of {p : Nat} {a b : Int} (h : a = b) : nt_c p a b := by rw [h]; exact nt_c_rf p b
theorem nt_c_sy {p : Nat} {a b : Int} (h : nt_c p a b) : nt_c p b a := by
  obtain ⟨k, hk⟩ := h
  exact ⟨-k, by rw [Int.mul_neg, ← hk]; omega⟩
theorem nt_c_tr {p : Nat} {a b c : Int} (h1 : nt_c p a b) (h2 : nt_c p b c) : nt_c p a c := by
  obtain ⟨k, hk⟩ := h1
  obtain ⟨m, hm⟩ := h2
  exact ⟨k + m, by rw [Int.mul_add, ← hk, ← hm]; omega⟩
theorem nt_c_add {p : Nat} {a b c d : Int} (h1 : nt_c p a b) (h2 : nt_c p c d) : nt_c p (a + c) (b + d) := by
  obtain ⟨k, hk⟩ := h1
  obtain ⟨m, hm⟩ := h2
  exact ⟨k + m, by rw [Int.mul_add, ← hk, ← hm]; omega⟩
theorem nt_c_sub {p : Nat} {a b c d : Int} (h1 : nt_c p a b) (h2 : nt_c p c d) : nt_c p (a - c) (b - d) := by
  obtain ⟨k, hk⟩ := h1
  obtain ⟨m, hm⟩ := h2
  exact ⟨k - m, by rw [Int.mul_sub, ← hk, ← hm]; omega⟩
theorem nt_c_mul {p : Nat} {a b c d : Int} (h1 : nt_c p a b) (h2 : nt_c p c d) : nt_c p (a * c) (b * d) := by
  obtain ⟨k, hk⟩ := h1
  obtain ⟨m, hm⟩ := h2
  refine ⟨k * c + b * m, ?_⟩
  have e1 : a = b + p * k := by omega
  have e2 : c = d + p * m := by omega
  subst e1
  subst e2
  grind
theorem nt_c_pow {p : Nat} {a b : Int} (h : nt_c p a b) (n : Nat) : nt_c p (a ^ n) (b ^ n) := by
  induction n with
  | zero => exact nt_c_of (by rw [Int.pow_zero, Int.pow_zero])
  | succ n ih =>
    rw [Int.pow_succ, Int.pow_succ]
    exact nt_c_mul ih h
theorem nt_c_s {p n : Nat} {f g : Nat → Int} (h : ∀ i, i < n → nt_c p (f i) (g i)) : nt_c p (nt_s n f) (nt_s n g) := by
  induction n with
  | zero => exact nt_c_rf p _
  | succ n ih =>
    rw [nt_s1, nt_s1]
    exact nt_c_add (ih (fun i hi => h i (by omega))) (h n (by omega))
theorem nt_c_mod (p : Nat) (a : Int) : nt_c p (a % p) a := by
  refine ⟨-(a / p), ?_⟩
  have h := Int.emod_add_mul_ediv a p
  rw [Int.mul_neg]
  omega
theorem nt_c_nm (p a : Nat) : nt_c p ((a % p : Nat) : Int) (a : Int) := by
  rw [Int.natCast_emod]
  exact nt_c_mod p a
theorem nt_c_eq {p : Nat} {a b : Int} (h : nt_c p a b) : a % p = b % p := by
  obtain ⟨k, hk⟩ := h
  have e : a = b + p * k := by omega
  rw [e, Int.add_mul_emod_self_left]
theorem nt_c_iff {p : Nat} {a b : Int} (h : a % p = b % p) : nt_c p a b := nt_c_tr (nt_c_sy (nt_c_mod p a)) (nt_c_tr (nt_c_of h) (nt_c_mod p b))
/-- canonical representatives -/
theorem nt_c_uniq {p a b : Nat} (h : nt_c p (a : Int) (b : Int)) (ha : a < p) (hb : b < p) : a = b := by
  have e := nt_c_eq h
  rw [Int.emod_eq_of_lt (by omega) (by omega), Int.emod_eq_of_lt (by omega) (by omega)] at e
  omega
theorem nt_c_p (p : Nat) : nt_c p (p : Int) 0 := ⟨1, by omega⟩
/-- values at a point -/
def nt_ev (n : Nat) (f : Nat → Int) (t : Int) : Int := nt_s n (fun i => f i * t ^ i)
theorem nt_ev_c {p n : Nat} {f g : Nat → Int} {t u : Int} (h : ∀ i, i < n → nt_c p (f i) (g i)) (ht : nt_c p t u) : nt_c p (nt_ev n f t) (nt_ev n g u) := nt_c_s (fun i hi => nt_c_mul (h i hi) (nt_c_pow ht i))
theorem nt_pc (a : Int) (m n : Nat) : (a ^ m) ^ n = (a ^ n) ^ m := by
  rw [← Int.pow_mul, ← Int.pow_mul, Nat.mul_comm]
theorem nt_m1e (k : Nat) : (-1 : Int) ^ (2 * k) = 1 := by
  rw [Int.pow_mul, show (-1 : Int) ^ 2 = 1 by decide, Int.one_pow]
theorem nt_m1o (k : Nat) : (-1 : Int) ^ (2 * k + 1) = -1 := by
  rw [Int.pow_succ, nt_m1e]; decide
/-- geometric sums -/
def nt_g (n : Nat) (x : Int) : Int := nt_s n (fun i => x ^ i)
theorem nt_g_c {p : Nat} (n : Nat) {x y : Int} (h : nt_c p x y) : nt_c p (nt_g n x) (nt_g n y) := nt_c_s (fun i _ => nt_c_pow h i)
theorem nt_g_1 (n : Nat) : nt_g n 1 = n := by
  induction n with
  | zero => rfl
  | succ n ih =>
    show nt_g n 1 + (1 : Int) ^ n = _
    rw [ih, Int.one_pow]
    omega
theorem nt_g_half (n : Nat) (x : Int) : nt_g (n + n) x = nt_g n x * (1 + x ^ n) := by
  show nt_s (n + n) (fun i => x ^ i) = nt_s n (fun i => x ^ i) * (1 + x ^ n)
  rw [nt_s_split, nt_s_congr (g := fun i => x ^ n * x ^ i) (fun i _ => Int.pow_add x n i), nt_s_mul]
  grind
theorem nt_g0 (p : Nat) : ∀ (m : Nat) (r : Int), nt_c p (r ^ (2 ^ m)) (-1) → ∀ j, 0 < j → j < 2 ^ (m + 1) → nt_c p (nt_g (2 ^ (m + 1)) (r ^ j)) 0 := by
  intro m
  induction m with
  | zero =>
    intro r hr j h0 h1
    have e : j = 1 := by
      have : (2 : Nat) ^ (0 + 1) = 2 := rfl
      omega
    subst e
    rw [show (2 : Nat) ^ (0 + 1) = 1 + 1 from rfl, nt_g_half]
    have e9 : (r ^ 1) ^ 1 = r ^ 1 := by rw [Int.pow_succ (r ^ 1) 0, Int.pow_zero, Int.one_mul]
    have h : nt_c p (1 + (r ^ 1) ^ 1) (1 + -1) := nt_c_add (nt_c_rf p 1) (by rw [e9]; exact hr)
    exact nt_c_tr (nt_c_mul (nt_c_rf p _) h) (nt_c_of (by omega))
  | succ m ih =>
    intro r hr j h0 h1
    have e2 : (2 : Nat) ^ (m + 1 + 1) = 2 ^ (m + 1) + 2 ^ (m + 1) := by rw [Nat.pow_succ]; omega
    rw [e2, nt_g_half]
    rcases Nat.mod_two_eq_zero_or_one j with q | q
    · have ej : j = 2 * (j / 2) := by omega
      have h := ih (r ^ 2) (by rw [← Int.pow_mul, show 2 * 2 ^ m = 2 ^ (m + 1) by rw [Nat.pow_succ]; omega]; exact hr) (j / 2) (by omega) (by omega)
      rw [← Int.pow_mul, ← ej] at h
      exact nt_c_tr (nt_c_mul h (nt_c_rf p _)) (nt_c_of (by rw [Int.zero_mul]))
    · have ej : j = 2 * (j / 2) + 1 := by omega
      have h : nt_c p (1 + (r ^ j) ^ (2 ^ (m + 1))) (1 + -1) := by
        refine nt_c_add (nt_c_rf p 1) ?_
        rw [nt_pc]
        refine nt_c_tr (nt_c_pow hr j) (nt_c_of ?_)
        rw [ej, nt_m1o]
      exact nt_c_tr (nt_c_mul (nt_c_rf p _) h) (nt_c_of (by omega))
/-- the transform back, but for the factor n -/
theorem nt_inv {p n : Nat} {r ri : Int} (c : Nat → Int) (h1 : nt_c p (r * ri) 1) (hr : ∀ j, 0 < j → j < n → nt_c p (nt_g n (r ^ j)) 0) (hi : ∀ j, 0 < j → j < n → nt_c p (nt_g n (ri ^ j)) 0) {k : Nat} (hk : k < n) : nt_c p (nt_ev n (fun j => nt_ev n c (r ^ j)) (ri ^ k)) (n * c k) := by
  have e : nt_ev n (fun j => nt_ev n c (r ^ j)) (ri ^ k) = nt_s n (fun i => c i * nt_g n (r ^ i * ri ^ k)) := by
    have e1 : ∀ j, j < n → nt_ev n c (r ^ j) * (ri ^ k) ^ j = nt_s n (fun i => c i * (r ^ i * ri ^ k) ^ j) := by
      intro j _
      rw [Int.mul_comm]
      show (ri ^ k) ^ j * nt_s n (fun i => c i * (r ^ j) ^ i) = _
      rw [← nt_s_mul]
      refine nt_s_congr (fun i _ => ?_)
      rw [Int.mul_pow, nt_pc r j i]
      grind
    show nt_s n (fun j => nt_ev n c (r ^ j) * (ri ^ k) ^ j) = _
    rw [nt_s_congr e1, nt_s_swap]
    exact nt_s_congr (fun i _ => nt_s_mul n (c i) (fun j => (r ^ i * ri ^ k) ^ j))
  rw [e]
  have h2 : nt_c p (nt_s n (fun i => c i * nt_g n (r ^ i * ri ^ k))) (nt_s n (fun i => if i = k then n * c k else 0)) := by
    refine nt_c_s (fun i hi' => ?_)
    rcases Nat.lt_trichotomy i k with q | q | q
    · have e3 : r ^ i * ri ^ k = (r * ri) ^ i * ri ^ (k - i) := by
        rw [Int.mul_pow, Int.mul_assoc, ← Int.pow_add, show i + (k - i) = k by omega]
      have h3 : nt_c p (r ^ i * ri ^ k) (ri ^ (k - i)) := by
        rw [e3]
        exact nt_c_tr (nt_c_mul (nt_c_pow h1 i) (nt_c_rf p _)) (nt_c_of (by rw [Int.one_pow, Int.one_mul]))
      rw [if_neg (by omega)]
      exact nt_c_tr (nt_c_mul (nt_c_rf p (c i)) (nt_c_tr (nt_g_c n h3) (hi (k - i) (by omega) (by omega)))) (nt_c_of (Int.mul_zero _))
    · subst q
      have h3 : nt_c p (r ^ i * ri ^ i) 1 := by
        rw [← Int.mul_pow]
        exact nt_c_tr (nt_c_pow h1 i) (nt_c_of Int.one_pow)
      rw [if_pos rfl]
      refine nt_c_tr (nt_c_mul (nt_c_rf p (c i)) (nt_g_c n h3)) (nt_c_of ?_)
      rw [nt_g_1, Int.mul_comm]
    · have e3 : r ^ i * ri ^ k = (r * ri) ^ k * r ^ (i - k) := by
        rw [Int.mul_pow, show r ^ i = r ^ k * r ^ (i - k) by rw [← Int.pow_add, show k + (i - k) = i by omega]]
        grind
      have h3 : nt_c p (r ^ i * ri ^ k) (r ^ (i - k)) := by
        rw [e3]
        exact nt_c_tr (nt_c_mul (nt_c_pow h1 k) (nt_c_rf p _)) (nt_c_of (by rw [Int.one_pow, Int.one_mul]))
      rw [if_neg (by omega)]
      exact nt_c_tr (nt_c_mul (nt_c_rf p (c i)) (nt_c_tr (nt_g_c n h3) (hr (i - k) (by omega) (by omega)))) (nt_c_of (Int.mul_zero _))
  refine nt_c_tr h2 (nt_c_of ?_)
  rw [nt_s_pick (k := k) hk (fun i _ hne => if_neg hne), if_pos rfl]
end
section
/-! pure numbers: bit reversal, the stages of the transform, powers -/
def nt_rev : Nat → Nat → Nat
  | 0, _ => 0
  | m + 1, b => (b % 2) * 2 ^ m + nt_rev m (b / 2)
theorem nt_rev0 (b : Nat) : nt_rev 0 b = 0 := rfl
theorem nt_rev1 (m b : Nat) : nt_rev (m + 1) b = (b % 2) * 2 ^ m + nt_rev m (b / 2) := rfl
theorem nt_p2 (m : Nat) : (2 : Nat) ^ (m + 1) = 2 * 2 ^ m := by rw [Nat.pow_succ, Nat.mul_comm]
theorem nt_rev_lt (m : Nat) : ∀ b, nt_rev m b < 2 ^ m := by
  induction m with
  | zero => intro b; rw [nt_rev0]; decide
  | succ m ih =>
    intro b
    have h := ih (b / 2)
    rw [nt_rev1, nt_p2]
    rcases Nat.mod_two_eq_zero_or_one b with q | q
    · rw [q, Nat.zero_mul]; omega
    · rw [q, Nat.one_mul]; omega
theorem nt_rev_even (m b : Nat) : nt_rev (m + 1) (2 * b) = nt_rev m b := by
  rw [nt_rev1, show 2 * b % 2 = 0 by omega, show 2 * b / 2 = b by omega]; omega
theorem nt_rev_odd (m b : Nat) : nt_rev (m + 1) (2 * b + 1) = 2 ^ m + nt_rev m b := by
  rw [nt_rev1, show (2 * b + 1) % 2 = 1 by omega, show (2 * b + 1) / 2 = b by omega]; omega
theorem nt_rev_hi (m : Nat) : ∀ c d, c < 2 → d < 2 ^ m → nt_rev (m + 1) (c * 2 ^ m + d) = 2 * nt_rev m d + c := by
  induction m with
  | zero =>
    intro c d hc hd
    have e : d = 0 := by
      have : (2 : Nat) ^ 0 = 1 := rfl
      omega
    subst e
    rw [nt_rev1, nt_rev0, nt_rev0, Nat.pow_zero]
    omega
  | succ m ih =>
    intro c d hc hd
    rw [nt_p2] at hd
    have e1 : (c * 2 ^ (m + 1) + d) % 2 = d % 2 := by
      rw [nt_p2, Nat.mul_left_comm]; omega
    have e2 : (c * 2 ^ (m + 1) + d) / 2 = c * 2 ^ m + d / 2 := by
      rw [nt_p2, Nat.mul_left_comm]; omega
    rw [nt_rev1 (m + 1) (c * 2 ^ (m + 1) + d), e1, e2, ih c (d / 2) hc (by omega), nt_rev1 m d, nt_p2]
    rcases Nat.mod_two_eq_zero_or_one d with q | q
    · rw [q, Nat.zero_mul, Nat.zero_mul]; omega
    · rw [q, Nat.one_mul, Nat.one_mul]; omega
theorem nt_rev_rev (m : Nat) : ∀ i, i < 2 ^ m → nt_rev m (nt_rev m i) = i := by
  induction m with
  | zero =>
    intro i hi
    have : (2 : Nat) ^ 0 = 1 := rfl
    rw [nt_rev0]; omega
  | succ m ih =>
    intro i hi
    rw [nt_p2] at hi
    rw [nt_rev1 m i, nt_rev_hi m (i % 2) (nt_rev m (i / 2)) (by omega) (nt_rev_lt m _), ih (i / 2) (by omega)]
    omega
/-- s stages done, m to come -/
def nt_st (p : Nat) (v : Nat → Nat) (r : Int) (s m : Nat) (V : Nat → Nat) : Prop :=
  ∀ b, b < 2 ^ m → ∀ k, k < 2 ^ s → nt_c p (V (b * 2 ^ s + k)) (nt_s (2 ^ s) (fun t => (v (nt_rev m b + t * 2 ^ m) : Int) * r ^ (2 ^ m * k * t)))
/-- one stage -/
def nt_bf (p L st : Nat) (V : Nat → Nat) : Nat → Nat := fun j =>
  if j % (2 * L) < L then (V j + V (j + L) * (st ^ (j % (2 * L)) % p) % p) % p
  else (V (j - L) + p - V j * (st ^ (j % (2 * L) - L) % p) % p) % p
theorem nt_bf_lt {p : Nat} (hp : 0 < p) (L st : Nat) (V : Nat → Nat) (j : Nat) : nt_bf p L st V j < p := by
  unfold nt_bf
  split
  · exact Nat.mod_lt _ hp
  · exact Nat.mod_lt _ hp
theorem nt_mod2 {L : Nat} (b k : Nat) (hk : k < 2 * L) : (b * (2 * L) + k) % (2 * L) = k := by
  rw [Nat.mul_comm b, Nat.mul_add_mod, Nat.mod_eq_of_lt hk]
theorem nt_bf_lo (p st : Nat) {L : Nat} (V : Nat → Nat) (b : Nat) {k : Nat} (hk : k < L) : nt_bf p L st V (b * (2 * L) + k) = (V (b * (2 * L) + k) + V (b * (2 * L) + k + L) * (st ^ k % p) % p) % p := by
  unfold nt_bf
  rw [nt_mod2 b k (by omega), if_pos hk]
theorem nt_bf_hi (p st : Nat) {L : Nat} (V : Nat → Nat) (b : Nat) {k : Nat} (hk : k < L) : nt_bf p L st V (b * (2 * L) + k + L) = (V (b * (2 * L) + k) + p - V (b * (2 * L) + k + L) * (st ^ k % p) % p) % p := by
  unfold nt_bf
  rw [Nat.add_assoc (b * (2 * L)) k L, nt_mod2 b (k + L) (by omega), if_neg (by omega), ← Nat.add_assoc, Nat.add_sub_cancel, Nat.add_sub_cancel]
theorem nt_cast_mul (p a b : Nat) : nt_c p ((a * b % p : Nat) : Int) ((a : Int) * b) := nt_c_tr (nt_c_nm p (a * b)) (nt_c_of (Int.natCast_mul a b))
theorem nt_cast_pow (p a k : Nat) : nt_c p ((a ^ k % p : Nat) : Int) ((a : Int) ^ k) := nt_c_tr (nt_c_nm p (a ^ k)) (nt_c_of (Int.natCast_pow a k))
theorem nt_lo_c (p a b w : Nat) {W : Int} (hw : nt_c p (w : Int) W) : nt_c p (((a + b * w % p) % p : Nat) : Int) (a + b * W) := by
  refine nt_c_tr (nt_c_nm p _) ?_
  rw [Int.natCast_add]
  exact nt_c_add (nt_c_rf p _) (nt_c_tr (nt_cast_mul p b w) (nt_c_mul (nt_c_rf p _) hw))
theorem nt_hi_c {p : Nat} (hp : 0 < p) (a b w : Nat) {W : Int} (hw : nt_c p (w : Int) W) : nt_c p (((a + p - b * w % p) % p : Nat) : Int) (a - b * W) := by
  refine nt_c_tr (nt_c_nm p _) ?_
  have h := Nat.mod_lt (b * w) hp
  rw [Int.natCast_sub (by omega), Int.natCast_add]
  refine nt_c_sub (nt_c_tr (nt_c_add (nt_c_rf p _) (nt_c_p p)) (nt_c_of (by omega))) ?_
  exact nt_c_tr (nt_cast_mul p b w) (nt_c_mul (nt_c_rf p _) hw)
theorem nt_st_step {p : Nat} (hp : 0 < p) {v : Nat → Nat} {r : Int} {s m st : Nat} {V : Nat → Nat} (hst : nt_c p (st : Int) (r ^ (2 ^ m))) (hr : nt_c p (r ^ (2 ^ m * 2 ^ s)) (-1)) (h : nt_st p v r s (m + 1) V) : nt_st p v r (s + 1) m (nt_bf p (2 ^ s) st V) := by
  intro b hb k hk
  rw [nt_p2 s] at hk ⊢
  have hb2 : 2 ^ (m + 1) = 2 * 2 ^ m := nt_p2 m
  generalize hL : 2 ^ s = L at hk hr h ⊢
  generalize hM : 2 ^ m = M at hst hr hb2 hb ⊢
  -- the two halves at k'
  have key : ∀ k', k' < L → nt_c p (V (b * (2 * L) + k')) (nt_s L (fun t => (v (nt_rev m b + (2 * t) * M) : Int) * r ^ (M * k' * (2 * t)))) ∧ nt_c p ((V (b * (2 * L) + k' + L) : Int) * r ^ (M * k')) (nt_s L (fun t => (v (nt_rev m b + (2 * t + 1) * M) : Int) * r ^ (M * k' * (2 * t + 1)))) := by
    intro k' hk'
    constructor
    · have h0 := h (2 * b) (by omega) k' (by rw [hL]; exact hk')
      rw [hL, show 2 * b * L + k' = b * (2 * L) + k' by rw [Nat.mul_comm 2 b, Nat.mul_assoc]] at h0
      refine nt_c_tr h0 (nt_c_of (nt_s_congr (fun t _ => ?_)))
      rw [nt_rev_even, hb2, show t * (2 * M) = 2 * t * M by grind, show 2 * M * k' * t = M * k' * (2 * t) by grind]
    · have h0 := h (2 * b + 1) (by omega) k' (by rw [hL]; exact hk')
      rw [hL, show (2 * b + 1) * L + k' = b * (2 * L) + k' + L by grind] at h0
      refine nt_c_tr (nt_c_mul h0 (nt_c_rf p (r ^ (M * k')))) (nt_c_of ?_)
      rw [Int.mul_comm, ← nt_s_mul]
      refine nt_s_congr (fun t _ => ?_)
      rw [nt_rev_odd, hb2, hM, show M + nt_rev m b + t * (2 * M) = nt_rev m b + (2 * t + 1) * M by grind, show M * k' * (2 * t + 1) = M * k' + 2 * M * k' * t by grind, Int.pow_add]
      grind
  rw [nt_s_two]
  rcases Nat.lt_or_ge k L with q | q
  · rw [nt_bf_lo p st V b q]
    obtain ⟨h0, h1⟩ := key k q
    refine nt_c_tr (nt_lo_c p _ _ _ (nt_c_tr (nt_cast_pow p st k) (nt_c_pow hst k))) ?_
    rw [← Int.pow_mul]
    exact nt_c_add h0 h1
  · obtain ⟨k', rfl⟩ : ∃ k', k = k' + L := ⟨k - L, by omega⟩
    have hk' : k' < L := by omega
    rw [← Nat.add_assoc, nt_bf_hi p st V b hk']
    obtain ⟨h0, h1⟩ := key k' hk'
    refine nt_c_tr (nt_hi_c hp _ _ _ (nt_c_tr (nt_cast_pow p st k') (nt_c_pow hst k'))) ?_
    rw [← Int.pow_mul]
    have h2 := nt_c_sub h0 h1
    refine nt_c_tr h2 ?_
    rw [Int.sub_eq_add_neg, show ∀ z : Int, -z = (-1) * z from fun z => by omega, ← nt_s_mul]
    refine nt_c_add (nt_c_s (fun t _ => ?_)) (nt_c_s (fun t _ => ?_))
    · refine nt_c_mul (nt_c_rf p _) ?_
      rw [show M * (k' + L) * (2 * t) = M * k' * (2 * t) + M * L * (2 * t) by grind, Int.pow_add, Int.pow_mul (n := M * L)]
      refine nt_c_sy (nt_c_tr (nt_c_mul (nt_c_rf p _) (nt_c_pow hr (2 * t))) (nt_c_of ?_))
      rw [nt_m1e, Int.mul_one]
    · rw [show M * (k' + L) * (2 * t + 1) = M * k' * (2 * t + 1) + M * L * (2 * t + 1) by grind, Int.pow_add, Int.pow_mul (n := M * L)]
      refine nt_c_sy (nt_c_tr (nt_c_mul (nt_c_rf p _) (nt_c_mul (nt_c_rf p _) (nt_c_pow hr (2 * t + 1)))) (nt_c_of ?_))
      rw [nt_m1o]
      grind
theorem nt_st_0 {p : Nat} {v V : Nat → Nat} {r : Int} {m : Nat} (h : ∀ j, j < 2 ^ m → V j = v (nt_rev m j)) : nt_st p v r 0 m V := by
  intro b hb k hk
  have e : k = 0 := by
    have : (2 : Nat) ^ 0 = 1 := rfl
    omega
  subst e
  refine nt_c_of ?_
  rw [Nat.pow_zero, nt_s1, nt_s0, Nat.mul_one, Nat.add_zero, h b hb, Nat.mul_zero, Nat.zero_mul, Int.pow_zero, Nat.add_zero, Int.mul_one, Int.zero_add]
theorem nt_st_end {p : Nat} {v V : Nat → Nat} {r : Int} {s : Nat} (h : nt_st p v r s 0 V) {k : Nat} (hk : k < 2 ^ s) : nt_c p (V k) (nt_ev (2 ^ s) (fun t => (v t : Int)) (r ^ k)) := by
  have h0 := h 0 (by decide) k hk
  rw [Nat.zero_mul, Nat.zero_add] at h0
  refine nt_c_tr h0 (nt_c_of (nt_s_congr (fun t _ => ?_)))
  rw [nt_rev0, Nat.pow_zero, Nat.mul_one, Nat.zero_add, Nat.one_mul, ← Int.pow_mul]
/-- fast powers, to compute with -/
def nt_pw (p : Nat) : Nat → Nat → Nat → Nat
  | 0, _, _ => 1 % p
  | f + 1, v, k => if k = 0 then 1 % p else if k % 2 = 1 then nt_pw p f (v * v % p) (k / 2) * v % p else nt_pw p f (v * v % p) (k / 2)
theorem nt_pow_two (v h : Nat) : v ^ (2 * h) = (v * v) ^ h := by
  rw [Nat.pow_mul, show v ^ 2 = v * v by rw [Nat.pow_succ, Nat.pow_one]]
theorem nt_pw_eq (p : Nat) : ∀ f v k, k < 2 ^ f → nt_pw p f v k = v ^ k % p := by
  intro f
  induction f with
  | zero =>
    intro v k hk
    have e : k = 0 := by
      have : (2 : Nat) ^ 0 = 1 := rfl
      omega
    subst e
    rw [Nat.pow_zero]; rfl
  | succ f ih =>
    intro v k hk
    rw [nt_p2] at hk
    unfold nt_pw
    split
    · next e => subst e; rw [Nat.pow_zero]
    · split
      · next q =>
        rw [ih _ _ (by omega), ← Nat.pow_mod, Nat.mod_mul_mod, ← nt_pow_two, ← Nat.pow_succ, show (2 * (k / 2)).succ = k by omega]
      · next q =>
        rw [ih _ _ (by omega), ← Nat.pow_mod, ← nt_pow_two, show 2 * (k / 2) = k by omega]
end
section
/-! pure numbers: the product by values at roots; the two rings' numbers; what an operation of the desk computes -/
/-- what a size n = 2^b needs of its numbers mod p: r a root, its inverse, u (turn or 1) with u^n = sg, its inverse, 1/n -/
def nt_ok (p b : Nat) (sg r ri u ui pt : Int) : Prop :=
  nt_c p (r * ri) 1 ∧ nt_c p (u * ui) 1 ∧ nt_c p (((2 ^ b : Nat) : Int) * pt) 1 ∧ nt_c p (u ^ (2 ^ b)) sg ∧ nt_c p (r ^ (2 ^ b)) 1 ∧ (∀ m, m + 1 = b → nt_c p (r ^ (2 ^ m)) (-1)) ∧ (∀ m, m + 1 = b → nt_c p (ri ^ (2 ^ m)) (-1))
theorem nt_orth {p b : Nat} {r : Int} (h : ∀ m, m + 1 = b → nt_c p (r ^ (2 ^ m)) (-1)) : ∀ j, 0 < j → j < 2 ^ b → nt_c p (nt_g (2 ^ b) (r ^ j)) 0 := by
  intro j h0 h1
  cases b with
  | zero =>
    have : (2 : Nat) ^ 0 = 1 := rfl
    omega
  | succ m => exact nt_g0 p m r (h m rfl) j h0 h1
theorem nt_half {p b : Nat} {r : Int} (h : ∀ m, m + 1 = b → nt_c p (r ^ (2 ^ m)) (-1)) {s m : Nat} (e : s + m + 1 = b) : nt_c p (r ^ (2 ^ m * 2 ^ s)) (-1) := by
  rw [← Nat.pow_add, Nat.add_comm m s]
  exact h (s + m) e
/-- weights go into the point -/
theorem nt_ev_w (n : Nat) (X : Nat → Int) (u t : Int) : nt_ev n (fun i => X i * u ^ i) t = nt_ev n X (u * t) := nt_s_congr (fun i _ => by rw [Int.mul_pow, Int.mul_assoc])
theorem nt_ring {p b : Nat} {sg r ri u ui pt : Int} (K : nt_ok p b sg r ri u ui pt) {X Y Z : Nat → Int} {a1 b1 a2 b2 a3 a4 a6 : Nat → Nat}
    (h1 : ∀ i, i < 2 ^ b → nt_c p (a1 i) (X i * u ^ i)) (h1' : ∀ i, i < 2 ^ b → nt_c p (b1 i) (Y i * u ^ i))
    (h2 : ∀ j, j < 2 ^ b → nt_c p (a2 j) (nt_ev (2 ^ b) (fun i => (a1 i : Int)) (r ^ j))) (h2' : ∀ j, j < 2 ^ b → nt_c p (b2 j) (nt_ev (2 ^ b) (fun i => (b1 i : Int)) (r ^ j)))
    (h3 : ∀ j, j < 2 ^ b → nt_c p (a3 j) ((a2 j : Int) * b2 j))
    (h4 : ∀ k, k < 2 ^ b → nt_c p (a4 k) (nt_ev (2 ^ b) (fun i => (a3 i : Int)) (ri ^ k)))
    (h6 : ∀ k, k < 2 ^ b → nt_c p (a6 k) ((a4 k : Int) * ui ^ k * pt))
    (hZ : ∀ t : Int, nt_c p (t ^ (2 ^ b)) sg → nt_c p (nt_ev (2 ^ b) Z t) (nt_ev (2 ^ b) X t * nt_ev (2 ^ b) Y t)) : ∀ k, k < 2 ^ b → nt_c p (a6 k) (Z k) := by
  obtain ⟨krr, kuu, kn, kun, krn, kr, kri⟩ := K
  have e3 : ∀ j, j < 2 ^ b → nt_c p (a3 j) (nt_ev (2 ^ b) (fun i => Z i * u ^ i) (r ^ j)) := by
    intro j hj
    have t1 : nt_c p ((u * r ^ j) ^ (2 ^ b)) sg := by
      rw [Int.mul_pow, nt_pc]
      exact nt_c_tr (nt_c_mul kun (nt_c_pow krn j)) (nt_c_of (by rw [Int.one_pow, Int.mul_one]))
    have t2 := hZ (u * r ^ j) t1
    rw [nt_ev_w]
    refine nt_c_tr (h3 j hj) (nt_c_sy (nt_c_tr t2 (nt_c_sy ?_)))
    refine nt_c_mul (nt_c_tr (h2 j hj) ?_) (nt_c_tr (h2' j hj) ?_)
    · rw [← nt_ev_w]
      exact nt_ev_c h1 (nt_c_rf p _)
    · rw [← nt_ev_w]
      exact nt_ev_c h1' (nt_c_rf p _)
  intro k hk
  have e4 : nt_c p (a4 k) (((2 ^ b : Nat) : Int) * (Z k * u ^ k)) := nt_c_tr (h4 k hk) (nt_c_tr (nt_ev_c e3 (nt_c_rf p _)) (nt_inv (fun i => Z i * u ^ i) krr (nt_orth kr) (nt_orth kri) hk))
  have e5 : nt_c p (u ^ k * ui ^ k) 1 := by
    rw [← Int.mul_pow]
    exact nt_c_tr (nt_c_pow kuu k) (nt_c_of Int.one_pow)
  refine nt_c_tr (h6 k hk) (nt_c_tr (nt_c_mul (nt_c_mul e4 (nt_c_rf p _)) (nt_c_rf p _)) ?_)
  have e6 : ((2 ^ b : Nat) : Int) * (Z k * u ^ k) * ui ^ k * pt = (((2 ^ b : Nat) : Int) * pt) * (u ^ k * ui ^ k) * Z k := by
    generalize ((2 ^ b : Nat) : Int) = n
    generalize u ^ k = u1
    generalize ui ^ k = u2
    grind
  rw [e6]
  exact nt_c_tr (nt_c_mul (nt_c_mul kn e5) (nt_c_rf p _)) (nt_c_of (by omega))
/-- a residue computed is a congruence -/
theorem nt_pw_c {p f v k a : Nat} (hk : k < 2 ^ f) (h : nt_pw p f v k = a) : nt_c p ((v : Int) ^ k) a := by
  rw [nt_pw_eq p f v k hk] at h
  rw [← h]
  exact nt_c_sy (nt_cast_pow p v k)
theorem nt_c_m1 {p : Nat} (hp : 0 < p) {x : Int} (h : nt_c p x ((p - 1 : Nat) : Int)) : nt_c p x (-1) := by
  refine nt_c_tr h ?_
  rw [Int.natCast_sub hp]
  exact nt_c_tr (nt_c_sub (nt_c_p p) (nt_c_rf p _)) (nt_c_of (by omega))
abbrev nt_P : Nat := 998244353
abbrev nt_Q : Nat := 1004535809
/-- the numbers that Ring computes -/
def nt_rt (p n : Nat) : Nat := 3 ^ ((p - 1) / n) % p
def nt_iv (p v : Nat) : Nat := v ^ (p - 2) % p
def nt_frt (p n : Nat) : Nat := nt_pw p 30 3 ((p - 1) / n)
def nt_fiv (p v : Nat) : Nat := nt_pw p 30 v (p - 2)
theorem nt_frt_eq {p : Nat} (hp : p < 2 ^ 30) (n : Nat) : nt_frt p n = nt_rt p n := nt_pw_eq p 30 3 _ (Nat.lt_of_le_of_lt (Nat.div_le_self _ _) (by omega))
theorem nt_fiv_eq {p : Nat} (hp : p < 2 ^ 30) (v : Nat) : nt_fiv p v = nt_iv p v := nt_pw_eq p 30 v _ (by omega)
/-- the check of one size -/
def nt_chk (p b : Nat) : Bool :=
  (nt_frt p (2 ^ b) * nt_fiv p (nt_frt p (2 ^ b)) % p == 1) && (nt_frt p (2 * 2 ^ b) * nt_fiv p (nt_frt p (2 * 2 ^ b)) % p == 1) && (2 ^ b * nt_fiv p (2 ^ b) % p == 1) && (nt_pw p 30 (nt_frt p (2 * 2 ^ b)) (2 ^ b) == p - 1) && (nt_pw p 30 (nt_frt p (2 ^ b)) (2 ^ b) == 1) && (b == 0 || (nt_pw p 30 (nt_frt p (2 ^ b)) (2 ^ (b - 1)) == p - 1 && nt_pw p 30 (nt_fiv p (nt_frt p (2 ^ b))) (2 ^ (b - 1)) == p - 1))
theorem nt_chk_P : ∀ b, b < 10 → nt_chk nt_P b = true := by decide +kernel
theorem nt_chk_Q : ∀ b, b < 10 → nt_chk nt_Q b = true := by decide +kernel
theorem nt_mul_c {p a b : Nat} (h : a * b % p = 1) : nt_c p ((a : Int) * b) 1 := by
  have h1 := nt_cast_mul p a b
  rw [h] at h1
  exact nt_c_sy h1
theorem nt_chk_ok {p b : Nat} (hp : p < 2 ^ 30) (hp0 : 0 < p) (hb : b < 10) (h : nt_chk p b = true) :
    nt_ok p b 1 (nt_rt p (2 ^ b)) (nt_iv p (nt_rt p (2 ^ b))) 1 1 (nt_iv p (2 ^ b)) ∧ nt_ok p b (-1) (nt_rt p (2 ^ b)) (nt_iv p (nt_rt p (2 ^ b))) (nt_rt p (2 * 2 ^ b)) (nt_iv p (nt_rt p (2 * 2 ^ b))) (nt_iv p (2 ^ b)) := by
  unfold nt_chk at h
  simp only [Bool.and_eq_true, beq_iff_eq, Bool.or_eq_true] at h
  rw [nt_frt_eq hp, nt_frt_eq hp, nt_fiv_eq hp, nt_fiv_eq hp, nt_fiv_eq hp] at h
  obtain ⟨⟨⟨⟨⟨h1, h2⟩, h3⟩, h4⟩, h5⟩, h6⟩ := h
  have hb30 : 2 ^ b < 2 ^ 30 := Nat.pow_lt_pow_right (by decide) (by omega)
  have g4 := nt_c_m1 hp0 (nt_pw_c hb30 h4)
  have g5 := nt_pw_c hb30 h5
  have g6 : ∀ m, m + 1 = b → nt_c p ((nt_rt p (2 ^ b) : Int) ^ (2 ^ m)) (-1) ∧ nt_c p ((nt_iv p (nt_rt p (2 ^ b)) : Int) ^ (2 ^ m)) (-1) := by
    intro m e
    rcases h6 with h6 | ⟨h6, h7⟩
    · omega
    · have e1 : b - 1 = m := by omega
      rw [e1] at h6 h7
      have hm30 : 2 ^ m < 2 ^ 30 := Nat.pow_lt_pow_right (by decide) (by omega)
      exact ⟨nt_c_m1 hp0 (nt_pw_c hm30 h6), nt_c_m1 hp0 (nt_pw_c hm30 h7)⟩
  refine ⟨⟨nt_mul_c h1, nt_c_of (by decide), nt_mul_c h3, nt_c_of Int.one_pow, g5, fun m e => (g6 m e).1, fun m e => (g6 m e).2⟩, ⟨nt_mul_c h1, nt_mul_c h2, nt_mul_c h3, g4, g5, fun m e => (g6 m e).1, fun m e => (g6 m e).2⟩⟩
end
section
/-! pure numbers: what an operation of the desk computes (nt_B: a row laid or folded, nt_Z: the answer), two primes together -/
def nt_B (nl : Nat) (ix : Nat → Nat) (c : Nat → Int) (k : Nat) : Int := nt_s nl (fun i => if ix i = k then c i else 0)
def nt_Z (nl nr : Nat) (ix : Nat → Nat → Nat) (c : Nat → Nat → Int) (k : Nat) : Int := nt_s nl (fun i => nt_B nr (ix i) (c i) k)
theorem nt_B1 (n : Nat) (ix : Nat → Nat) (c : Nat → Int) (k : Nat) : nt_B (n + 1) ix c k = nt_B n ix c k + (if ix n = k then c n else 0) := rfl
theorem nt_B0 (ix : Nat → Nat) (c : Nat → Int) (k : Nat) : nt_B 0 ix c k = 0 := rfl
theorem nt_Z1 (n nr : Nat) (ix : Nat → Nat → Nat) (c : Nat → Nat → Int) (k : Nat) : nt_Z (n + 1) nr ix c k = nt_Z n nr ix c k + nt_B nr (ix n) (c n) k := rfl
theorem nt_Z0 (nr : Nat) (ix : Nat → Nat → Nat) (c : Nat → Nat → Int) (k : Nat) : nt_Z 0 nr ix c k = 0 := rfl
theorem nt_B_out {nl : Nat} {ix : Nat → Nat} {c : Nat → Int} {k : Nat} (h : ∀ i, i < nl → ix i ≠ k) : nt_B nl ix c k = 0 := nt_s_all0 (fun i hi => if_neg (h i hi))
theorem nt_Z_out {nl nr : Nat} {ix : Nat → Nat → Nat} {c : Nat → Nat → Int} {k : Nat} (h : ∀ i, i < nl → ∀ j, j < nr → ix i j ≠ k) : nt_Z nl nr ix c k = 0 := nt_s_all0 (fun i hi => nt_B_out (h i hi))
theorem nt_B_congr {nl : Nat} {ix ix' : Nat → Nat} {c c' : Nat → Int} (k : Nat) (h : ∀ i, i < nl → ix i = ix' i ∧ c i = c' i) : nt_B nl ix c k = nt_B nl ix' c' k := nt_s_congr (fun i hi => by rw [(h i hi).1, (h i hi).2])
theorem nt_Z_congr {nl nr : Nat} {ix ix' : Nat → Nat → Nat} {c c' : Nat → Nat → Int} (k : Nat) (h : ∀ i, i < nl → ∀ j, j < nr → ix i j = ix' i j ∧ c i j = c' i j) : nt_Z nl nr ix c k = nt_Z nl nr ix' c' k := nt_s_congr (fun i hi => nt_B_congr k (h i hi))
theorem nt_B_ev {n nl : Nat} {ix : Nat → Nat} {c : Nat → Int} (h : ∀ i, i < nl → ix i < n) (t : Int) : nt_ev n (nt_B nl ix c) t = nt_s nl (fun i => c i * t ^ ix i) := by
  have e1 : ∀ k, k < n → nt_B nl ix c k * t ^ k = nt_s nl (fun i => t ^ k * (if ix i = k then c i else 0)) := fun k _ => by
    rw [Int.mul_comm, nt_s_mul]
    rfl
  show nt_s n (fun k => nt_B nl ix c k * t ^ k) = _
  rw [nt_s_congr e1, nt_s_swap]
  refine nt_s_congr (fun i hi => ?_)
  rw [nt_s_pick (k := ix i) (h i hi) (fun k _ hne => by rw [if_neg (fun q => hne q.symm), Int.mul_zero]), if_pos rfl, Int.mul_comm]
theorem nt_Z_ev {n nl nr : Nat} {ix : Nat → Nat → Nat} {c : Nat → Nat → Int} (h : ∀ i, i < nl → ∀ j, j < nr → ix i j < n) (t : Int) : nt_ev n (nt_Z nl nr ix c) t = nt_s nl (fun i => nt_s nr (fun j => c i j * t ^ ix i j)) := by
  have e1 : ∀ k, k < n → nt_Z nl nr ix c k * t ^ k = nt_s nl (fun i => t ^ k * nt_B nr (ix i) (c i) k) := fun k _ => by
    rw [Int.mul_comm, nt_s_mul]
    rfl
  show nt_s n (fun k => nt_Z nl nr ix c k * t ^ k) = _
  rw [nt_s_congr e1, nt_s_swap]
  refine nt_s_congr (fun i hi => ?_)
  rw [← nt_B_ev (h i hi) t]
  exact nt_s_congr (fun k _ => Int.mul_comm _ _)
theorem nt_s_prod (n m : Nat) (f g : Nat → Int) : nt_s n f * nt_s m g = nt_s n (fun i => nt_s m (fun j => f i * g j)) := by
  rw [Int.mul_comm, ← nt_s_mul]
  refine nt_s_congr (fun i _ => ?_)
  rw [nt_s_mul, Int.mul_comm]
theorem nt_Z_ok {p n nl nr : Nat} {il ir : Nat → Nat} {cl cr : Nat → Int} {ix : Nat → Nat → Nat} {c : Nat → Nat → Int} (hl : ∀ i, i < nl → il i < n) (hr : ∀ j, j < nr → ir j < n) (hx : ∀ i, i < nl → ∀ j, j < nr → ix i j < n) {t : Int}
    (h : ∀ i, i < nl → ∀ j, j < nr → nt_c p (c i j * t ^ ix i j) ((cl i * t ^ il i) * (cr j * t ^ ir j))) : nt_c p (nt_ev n (nt_Z nl nr ix c) t) (nt_ev n (nt_B nl il cl) t * nt_ev n (nt_B nr ir cr) t) := by
  rw [nt_Z_ev hx, nt_B_ev hl, nt_B_ev hr, nt_s_prod]
  exact nt_c_s (fun i hi => nt_c_s (fun j hj => h i hi j hj))
/-- the sign of a fold -/
def nt_sg (tw : Bool) (n a : Nat) : Int := if tw = true ∧ a / n % 2 = 1 then -1 else 1
def nt_tg (tw : Bool) : Int := if tw = true then -1 else 1
theorem nt_sg_t {p n : Nat} {tw : Bool} {t : Int} (h : nt_c p (t ^ n) (nt_tg tw)) (a : Nat) : nt_c p (nt_sg tw n a * t ^ (a % n)) (t ^ a) := by
  have e : t ^ a = (t ^ n) ^ (a / n) * t ^ (a % n) := by rw [← Int.pow_mul, ← Int.pow_add, Nat.div_add_mod]
  rw [e]
  refine nt_c_mul ?_ (nt_c_rf p _)
  refine nt_c_sy (nt_c_tr (nt_c_pow h (a / n)) (nt_c_of ?_))
  unfold nt_tg nt_sg
  cases tw with
  | false => simp [Int.one_pow]
  | true =>
    rcases Nat.mod_two_eq_zero_or_one (a / n) with q | q
    · rw [if_pos rfl, if_neg (by omega), show a / n = 2 * (a / n / 2) by omega, nt_m1e]
    · rw [if_pos rfl, if_pos ⟨rfl, q⟩, show a / n = 2 * (a / n / 2) + 1 by omega, nt_m1o]
theorem nt_sg_b (tw : Bool) (n a : Nat) : nt_sg tw n a = 1 ∨ nt_sg tw n a = -1 := by
  unfold nt_sg
  split
  · exact Or.inr rfl
  · exact Or.inl rfl
/-- circle and twisted -/
theorem nt_fold_ok {p n nl nr : Nat} {tw : Bool} {lf rf : Nat → Int} (hn : 0 < n) {t : Int} (ht : nt_c p (t ^ n) (nt_tg tw)) :
    nt_c p (nt_ev n (nt_Z nl nr (fun i j => (i + j) % n) (fun i j => nt_sg tw n (i + j) * lf i * rf j)) t) (nt_ev n (nt_B nl (fun i => i % n) (fun i => nt_sg tw n i * lf i)) t * nt_ev n (nt_B nr (fun i => i % n) (fun i => nt_sg tw n i * rf i)) t) := by
  refine nt_Z_ok (fun i _ => Nat.mod_lt _ hn) (fun i _ => Nat.mod_lt _ hn) (fun i _ j _ => Nat.mod_lt _ hn) (fun i _ j _ => ?_)
  have h1 := nt_sg_t ht (i + j)
  have h2 := nt_c_mul (nt_sg_t ht i) (nt_sg_t ht j)
  rw [Int.pow_add] at h1
  have h3 := nt_c_mul (nt_c_tr h1 (nt_c_sy h2)) (nt_c_rf p (lf i * rf j))
  generalize t ^ ((i + j) % n) = t0 at h3 ⊢
  generalize t ^ (i % n) = t1 at h3 ⊢
  generalize t ^ (j % n) = t2 at h3 ⊢
  generalize nt_sg tw n (i + j) = s0 at h3 ⊢
  generalize nt_sg tw n i = s1 at h3 ⊢
  generalize nt_sg tw n j = s2 at h3 ⊢
  rw [show s0 * lf i * rf j * t0 = s0 * t0 * (lf i * rf j) by grind, show s1 * lf i * t1 * (s2 * rf j * t2) = s1 * t1 * (s2 * t2) * (lf i * rf j) by grind]
  exact h3
/-- product (d = false) and likeness (d = true), both of 512 -/
def nt_di (d : Bool) (j : Nat) : Nat := if d = true then 255 - j else j
theorem nt_lay_ok {p nl nr : Nat} (d : Bool) {lf rf : Nat → Int} (hl : nl ≤ 256) (hr : nr ≤ 256) (t : Int) :
    nt_c p (nt_ev 512 (nt_Z nl nr (fun i j => i + nt_di d j) (fun i j => lf i * rf j)) t) (nt_ev 512 (nt_B nl (fun i => i) lf) t * nt_ev 512 (nt_B nr (nt_di d) rf) t) := by
  have hd : ∀ j, j < nr → nt_di d j < 256 := fun j hj => by
    unfold nt_di
    split <;> omega
  refine nt_Z_ok (fun i hi => by omega) (fun j hj => by have := hd j hj; omega) (fun i hi j hj => by have := hd j hj; omega) (fun i hi j hj => nt_c_of ?_)
  rw [Int.pow_add]
  generalize t ^ i = t1
  generalize t ^ nt_di d j = t2
  grind
theorem nt_B_id {nl k : Nat} {c : Nat → Int} : nt_B nl (fun i => i) c k = if k < nl then c k else 0 := by
  rcases Nat.lt_or_ge k nl with q | q
  · rw [if_pos q]
    show nt_s nl (fun i => if i = k then c i else 0) = c k
    rw [nt_s_pick (k := k) q (fun i _ hne => if_neg hne), if_pos rfl]
  · rw [if_neg (by omega)]
    exact nt_B_out (fun i hi => by omega)
/-- bounds -/
theorem nt_B_bd {nl : Nat} (hn : nl ≤ 256) {ix : Nat → Nat} {c : Nat → Int} {k : Nat} {B : Int} (hB : 0 ≤ B) (h : ∀ i, i < nl → -B ≤ c i ∧ c i ≤ B) : -(256 * B) ≤ nt_B nl ix c k ∧ nt_B nl ix c k ≤ 256 * B := by
  have h1 := nt_s_bound (n := nl) (f := fun i => if ix i = k then c i else 0) (B := B) (fun i hi => by
    show -B ≤ (if ix i = k then c i else 0) ∧ (if ix i = k then c i else 0) ≤ B
    split
    · exact h i hi
    · omega)
  have h2 : (nl : Int) * B ≤ 256 * B := Int.mul_le_mul_of_nonneg_right (by omega) hB
  have h3 : nt_B nl ix c k = nt_s nl (fun i => if ix i = k then c i else 0) := rfl
  rw [h3]
  omega
theorem nt_Z_bd {nl nr : Nat} (hl : nl ≤ 256) (hr : nr ≤ 256) {ix : Nat → Nat → Nat} {c : Nat → Nat → Int} {k : Nat} {B : Int} (hB : 0 ≤ B) (h : ∀ i, i < nl → ∀ j, j < nr → -B ≤ c i j ∧ c i j ≤ B) : -(65536 * B) ≤ nt_Z nl nr ix c k ∧ nt_Z nl nr ix c k ≤ 65536 * B := by
  have h1 := nt_s_bound (n := nl) (f := fun i => nt_B nr (ix i) (c i) k) (B := 256 * B) (fun i hi => nt_B_bd hr hB (h i hi))
  have h2 : (nl : Int) * (256 * B) ≤ 256 * (256 * B) := Int.mul_le_mul_of_nonneg_right (by omega) (by omega)
  have h3 : nt_Z nl nr ix c k = nt_s nl (fun i => nt_B nr (ix i) (c i) k) := rfl
  rw [h3]
  omega
theorem nt_prod_bd {x y M N : Int} (hx : -M ≤ x ∧ x ≤ M) (hy : -N ≤ y ∧ y ≤ N) : -(M * N) ≤ x * y ∧ x * y ≤ M * N := by
  have h1 : 0 ≤ (M - x) * (N + y) := Int.mul_nonneg (by omega) (by omega)
  have h2 : 0 ≤ (M + x) * (N - y) := Int.mul_nonneg (by omega) (by omega)
  have h3 : 0 ≤ (M - x) * (N - y) := Int.mul_nonneg (by omega) (by omega)
  have h4 : 0 ≤ (M + x) * (N + y) := Int.mul_nonneg (by omega) (by omega)
  have e1 : (M - x) * (N + y) = M * N + M * y - x * N - x * y := by grind
  have e2 : (M + x) * (N - y) = M * N - M * y + x * N - x * y := by grind
  have e3 : (M - x) * (N - y) = M * N - M * y - x * N + x * y := by grind
  have e4 : (M + x) * (N + y) = M * N + M * y + x * N + x * y := by grind
  omega
/-- two primes together -/
theorem nt_crt {r1 r2 : Nat} {Z : Int} (h1 : r1 < nt_P) (h2 : r2 < nt_Q) (g1 : nt_c nt_P r1 Z) (g2 : nt_c nt_Q r2 Z) (hb : -(2 ^ 58) ≤ Z ∧ Z ≤ 2 ^ 58) {bk : Nat} (hk : nt_P * bk % nt_Q = 1) :
    r1 + nt_P * ((r2 + nt_Q - r1 % nt_Q) % nt_Q * bk % nt_Q) < nt_P * nt_Q ∧ (if nt_P * nt_Q / 2 < r1 + nt_P * ((r2 + nt_Q - r1 % nt_Q) % nt_Q * bk % nt_Q) then ((r1 + nt_P * ((r2 + nt_Q - r1 % nt_Q) % nt_Q * bk % nt_Q) : Nat) : Int) - ((nt_P * nt_Q : Nat) : Int) else ((r1 + nt_P * ((r2 + nt_Q - r1 % nt_Q) % nt_Q * bk % nt_Q) : Nat) : Int)) = Z := by
  have hd : (r2 + nt_Q - r1 % nt_Q) % nt_Q * bk % nt_Q < nt_Q := Nat.mod_lt _ (by decide)
  have gd : nt_c nt_Q (((r2 + nt_Q - r1 % nt_Q) % nt_Q * bk % nt_Q : Nat) : Int) (((r2 : Int) - r1) * bk) := by
    refine nt_c_tr (nt_cast_mul _ _ _) (nt_c_mul (nt_c_tr (nt_c_nm _ _) ?_) (nt_c_rf _ _))
    have hm : r1 % nt_Q < nt_Q := Nat.mod_lt _ (by decide)
    rw [Int.natCast_sub (by omega), Int.natCast_add]
    exact nt_c_sub (nt_c_tr (nt_c_add (nt_c_rf _ _) (nt_c_p _)) (nt_c_of (by omega))) (nt_c_nm _ _)
  generalize (r2 + nt_Q - r1 % nt_Q) % nt_Q * bk % nt_Q = d at hd gd ⊢
  have gk := nt_mul_c hk
  have e1 : nt_c nt_P ((r1 + nt_P * d : Nat) : Int) Z := by
    refine nt_c_tr ?_ g1
    refine ⟨d, ?_⟩
    omega
  have e2 : nt_c nt_Q ((r1 + nt_P * d : Nat) : Int) Z := by
    refine nt_c_tr ?_ g2
    rw [Int.natCast_add, Int.natCast_mul]
    refine nt_c_tr (nt_c_add (nt_c_rf _ _) (nt_c_mul (nt_c_rf _ (nt_P : Int)) gd)) ?_
    rw [show (nt_P : Int) * (((r2 : Int) - r1) * bk) = (nt_P : Int) * bk * ((r2 : Int) - r1) by grind]
    refine nt_c_tr (nt_c_add (nt_c_rf _ _) (nt_c_mul gk (nt_c_rf _ _))) (nt_c_of (by omega))
  obtain ⟨k, hk1⟩ := e1
  obtain ⟨u, hu⟩ := e2
  obtain ⟨w, hw⟩ := gk
  have hkq : ∃ m : Int, k = (nt_Q : Int) * m := by
    refine ⟨bk * u - w * k, ?_⟩
    have e3 : (nt_P : Int) * k = (nt_Q : Int) * u := by omega
    have e4 : (nt_P : Int) * bk * k = (nt_Q : Int) * (bk * u) := by
      rw [Int.mul_assoc, Int.mul_left_comm, e3]
      grind
    have e5 : (nt_P : Int) * bk = 1 + (nt_Q : Int) * w := by omega
    rw [e5] at e4
    have e6 : (1 + (nt_Q : Int) * w) * k = k + (nt_Q : Int) * (w * k) := by grind
    rw [e6] at e4
    rw [Int.mul_sub]
    omega
  obtain ⟨m, rfl⟩ := hkq
  simp only [nt_P, nt_Q] at h1 hd hk1 ⊢
  constructor
  · omega
  · split <;> omega
end
section
/-! Ring's small methods -/
abbrev rk0 : Room := { frames := 0, cells := 0, slots := 0, locals := 0 }
abbrev rk1 : Room := { frames := 1, cells := 0, slots := 0, locals := 30 }
theorem fa_le64 (a b : Int64) : a ≤ b ↔ a.toInt ≤ b.toInt := Int64.le_iff_toInt_le
theorem k_mb {a b P : Nat} (ha : a < P) (hb : b < P) (hP : P < 2 ^ 30) : a * b < 2 ^ 63 := by
  have h1 : a * b < 2 ^ 30 * 2 ^ 30 := Nat.mul_lt_mul'' (by omega) (by omega)
  omega
theorem nt_pstep0 {P a y c0 w : Nat} (q : c0 % 2 = 0) (h : a * y ^ c0 % P = w) : a * (y * y % P) ^ (c0 / 2) % P = w := by
  rw [Nat.mul_mod a, ← Nat.pow_mod, ← Nat.mul_mod, ← nt_pow_two, show 2 * (c0 / 2) = c0 by omega, h]
theorem nt_pstep1 {P a y c0 w : Nat} (q : c0 % 2 = 1) (h : a * y ^ c0 % P = w) : a * y % P * (y * y % P) ^ (c0 / 2) % P = w := by
  rw [Nat.mul_mod, Nat.mod_mod, ← Nat.pow_mod, ← Nat.mul_mod, ← nt_pow_two, Nat.mul_assoc, ← Nat.pow_add_one', show 2 * (c0 / 2) + 1 = c0 by omega, h]
set_option maxHeartbeats 4000000 in
set_option maxRecDepth 100000 in
/-- power's loop at its head -/
theorem lp_power {p : Program} {l : Launch} {e : Env} {R : Room} {s : State} {m : MethodId} {args : Array Value} {below : List Frame} {meth : Method} {c : Code} {Q : State → Prop} {D : va_G} {cells slots : Nat} {h0 ra rb P w : Nat} {H : Heap} {locs : List Loc} (C : k_C p s m args meth c yX1_power cX1_power 11 (some .long)) (hP1 : 1 < P) (hP2 : P < 2 ^ 30) (hK : va_K D vwCl [] s) (hP : va_P D vwCl [(h0, .inr (1, [.long (lN P), .ref ra, .ref rb]))] H)
    (kk : ∀ ls : Array Slot, lv_has ls 11 [(5, .long (lN w))] → W p l e R s m args below meth c H locs cells slots Q (F0 m 58 ls [])) :
    ∀ (N c0 a y : Nat) (ls : Array Slot), c0 < N → c0 < 2 ^ 62 → a < P → y < P → a * y ^ c0 % P = w → lv_has ls 11 [(0, .ref h0), (5, .long (lN a)), (7, .long (lN y)), (9, .long (lN c0))] → W p l e R s m args below meth c H locs cells slots Q (F0 m 9 ls []) := by
  obtain ⟨hx, hb, hml, hr, hlocks, hown, hin, hts⟩ := id C
  have hown : s.vm.findClass RX1 = some m.cls := hown
  intro N
  induction N with
  | zero => intro c0 a y ls h1; exact absurd h1 (Nat.not_lt_zero _)
  | succ N ih =>
    intro c0 a y ls h1 h2 ha hy hw hl
    refine lv_lload hx hb dX1_power_9 (lv_at hl 3 rfl) ?_
    refine lv_lconst (v := lN 0) hx hb dX1_power_11 (by decide) ?_
    refine W.lcmp hx hb dX1_power_12 ?_
    refine lv_if_le (tgt := 58) hx hb dX1_power_13 (by decide)  (fun c1 => ?_) (fun c1 => ?_)
    · have e0 : c0 = 0 := by have := (pk_lLE (by omega) (by omega)).mp ((lg_cmp_le _ _).mp c1); omega
      subst e0
      rw [Nat.pow_zero, Nat.mul_one, Nat.mod_eq_of_lt ha] at hw
      subst hw
      exact kk ls (lv_sub hl [1] rfl)
    · have e0 : 0 < c0 := by have : ¬ c0 ≤ 0 := fun h => c1 ((lg_cmp_le _ _).mpr ((pk_lLE (a := c0) (b := 0) (by omega) (by omega)).mpr h)); omega
      refine lv_lload hx hb dX1_power_16 (lv_at hl 3 rfl) ?_
      refine lv_lconst (v := lN 1) hx hb dX1_power_18 (by decide) ?_
      refine lv_land hx hb dX1_power_19 ?_
      refine k_tl (lN (c0 % 2)) (k_and1 c0) ?_
      refine lv_lconst (v := lN 1) hx hb dX1_power_20 (by decide) ?_
      refine W.lcmp hx hb dX1_power_21 ?_
      refine lv_if_ne (tgt := 37) hx hb dX1_power_22 (by decide)  (fun c2 => ?_) (fun c2 => ?_)
      · have e1 : c0 % 2 = 0 := by have : ¬ c0 % 2 = 1 := fun h => c2 ((lg_cmp_eq _ _).mpr ((pk_lEQ (a := c0 % 2) (b := 1) (by omega) (by omega)).mpr h)); omega
        refine lv_lload hx hb dX1_power_37 (lv_at hl 2 rfl) ?_
        refine lv_lload hx hb dX1_power_39 (lv_at hl 2 rfl) ?_
        refine k_lmul hx hb dX1_power_41  ?_
        refine lv_aload_n hx hb dX1_power_42 rfl (lv_at hl 0 rfl) ?_
        refine va_get (D := D) (ci := 1) (v := .long (lN P)) (C := RX1) (T := TX1) (N := 3) hx hb hts in_X1 hown hK hP 0 rfl rfl 0 (by decide) (hts _ q26) (fun _ h9 => h9) rfl dX1_power_43 ?_
        refine k_lrem hx hb dX1_power_46 (k_mb hy hy hP2) (by omega) (by omega) ?_
        refine lv_lstore (lv' := [(7, .long (lN ((y * y) % P))), (0, .ref h0), (5, .long (lN a)), (9, .long (lN c0))]) hx hb dX1_power_47 hl (by decide) rfl (fun ls hl => ?_)
        refine lv_lload hx hb dX1_power_49 (lv_at hl 3 rfl) ?_
        refine lv_iconst (v := nI 1) hx hb dX1_power_51 (by decide) ?_
        refine lv_lshr (v := lN (c0 / 2)) hx hb dX1_power_52 (k_shr1 h2) ?_
        refine lv_lstore (lv' := [(9, .long (lN (c0 / 2))), (7, .long (lN ((y * y) % P))), (0, .ref h0), (5, .long (lN a))]) hx hb dX1_power_53 hl (by decide) rfl (fun ls hl => ?_)
        refine lv_goto (tgt := 9) hx hb dX1_power_55 (by decide) ?_
        exact ih (c0 / 2) a (y * y % P) ls (by omega) (by omega) ha (Nat.mod_lt _ (by omega)) (nt_pstep0 e1 hw) (lv_sub hl [2, 3, 1, 0] rfl)
      · have e1 : c0 % 2 = 1 := (pk_lEQ (by omega) (by omega)).mp ((lg_cmp_eq _ _).mp c2)
        refine lv_lload hx hb dX1_power_25 (lv_at hl 1 rfl) ?_
        refine lv_lload hx hb dX1_power_27 (lv_at hl 2 rfl) ?_
        refine k_lmul hx hb dX1_power_29  ?_
        refine lv_aload_n hx hb dX1_power_30 rfl (lv_at hl 0 rfl) ?_
        refine va_get (D := D) (ci := 1) (v := .long (lN P)) (C := RX1) (T := TX1) (N := 3) hx hb hts in_X1 hown hK hP 0 rfl rfl 0 (by decide) (hts _ q26) (fun _ h9 => h9) rfl dX1_power_31 ?_
        refine k_lrem hx hb dX1_power_34 (k_mb ha hy hP2) (by omega) (by omega) ?_
        refine lv_lstore (lv' := [(5, .long (lN ((a * y) % P))), (0, .ref h0), (7, .long (lN y)), (9, .long (lN c0))]) hx hb dX1_power_35 hl (by decide) rfl (fun ls hl => ?_)
        refine lv_lload hx hb dX1_power_37 (lv_at hl 2 rfl) ?_
        refine lv_lload hx hb dX1_power_39 (lv_at hl 2 rfl) ?_
        refine k_lmul hx hb dX1_power_41  ?_
        refine lv_aload_n hx hb dX1_power_42 rfl (lv_at hl 1 rfl) ?_
        refine va_get (D := D) (ci := 1) (v := .long (lN P)) (C := RX1) (T := TX1) (N := 3) hx hb hts in_X1 hown hK hP 0 rfl rfl 0 (by decide) (hts _ q26) (fun _ h9 => h9) rfl dX1_power_43 ?_
        refine k_lrem hx hb dX1_power_46 (k_mb hy hy hP2) (by omega) (by omega) ?_
        refine lv_lstore (lv' := [(7, .long (lN ((y * y) % P))), (5, .long (lN ((a * y) % P))), (0, .ref h0), (9, .long (lN c0))]) hx hb dX1_power_47 hl (by decide) rfl (fun ls hl => ?_)
        refine lv_lload hx hb dX1_power_49 (lv_at hl 3 rfl) ?_
        refine lv_iconst (v := nI 1) hx hb dX1_power_51 (by decide) ?_
        refine lv_lshr (v := lN (c0 / 2)) hx hb dX1_power_52 (k_shr1 h2) ?_
        refine lv_lstore (lv' := [(9, .long (lN (c0 / 2))), (7, .long (lN ((y * y) % P))), (5, .long (lN ((a * y) % P))), (0, .ref h0)]) hx hb dX1_power_53 hl (by decide) rfl (fun ls hl => ?_)
        refine lv_goto (tgt := 9) hx hb dX1_power_55 (by decide) ?_
        exact ih (c0 / 2) (a * y % P) (y * y % P) ls (by omega) (by omega) (Nat.mod_lt _ (by omega)) (Nat.mod_lt _ (by omega)) (nt_pstep1 e1 hw) (lv_sub hl [3, 2, 1, 0] rfl)
set_option maxHeartbeats 4000000 in
set_option maxRecDepth 100000 in
/-- power(v, k) is v^k mod P -/
theorem m_power (l : Launch) (D : va_G) (h0 ra rb P : Nat) (hP1 : 1 < P) (hP2 : P < 2 ^ 30) (v k : Nat) (hv : v < P) (hk : k < 2 ^ 62) : k_Ml l yX1_power cX1_power 11 rk0 D [.ref h0, .long (lN v), .long (lN k)] [(h0, .inr (1, [.long (lN P), .ref ra, .ref rb]))] [] (fun r (_ : Unit) => r = lN (v ^ k % P)) (fun (_ : Unit) => [(h0, .inr (1, [.long (lN P), .ref ra, .ref rb]))]) := by
  intro sz
  refine k_met (Qc := fun A => va_Ql (fun r (_ : Unit) => r = lN (v ^ k % P)) (fun (_ : Unit) t => k_B D A [(h0, .inr (1, [.long (lN P), .ref ra, .ref rb]))] [] t) A) (by decide) (Nat.le_of_ble_eq_true rfl) ?_
  intro p e s m below meth c A ls C hP hK hD hA hS hl
  obtain ⟨hx, hb, hml, hr, hlocks, hown, hin, hts⟩ := id C
  have hown : s.vm.findClass RX1 = some m.cls := hown
  have hl : lv_has ls 11 [(0, .ref h0), (1, .long (lN v)), (3, .long (lN k))] := hl
  refine lv_lconst (v := lN 1) hx hb dX1_power_0 (by decide) ?_
  refine lv_lstore (lv' := [(5, .long (lN 1)), (0, .ref h0), (1, .long (lN v)), (3, .long (lN k))]) hx hb dX1_power_1 hl (by decide) rfl (fun ls hl => ?_)
  refine lv_lload_n hx hb dX1_power_3 rfl (lv_at hl 2 rfl) ?_
  refine lv_lstore (lv' := [(7, .long (lN v)), (5, .long (lN 1)), (0, .ref h0), (1, .long (lN v)), (3, .long (lN k))]) hx hb dX1_power_4 hl (by decide) rfl (fun ls hl => ?_)
  refine lv_lload_n hx hb dX1_power_6 rfl (lv_at hl 4 rfl) ?_
  refine lv_lstore (lv' := [(9, .long (lN k)), (7, .long (lN v)), (5, .long (lN 1)), (0, .ref h0), (1, .long (lN v)), (3, .long (lN k))]) hx hb dX1_power_7 hl (by decide) rfl (fun ls hl => ?_)
  refine lp_power C hP1 hP2 hK hP (fun ls hl => ?_) (k + 1) k 1 v ls (Nat.lt_succ_self k) hk hP1 hv rfl (lv_sub hl [3, 2, 1, 0] rfl)
  rw [Nat.one_mul] at hl
  refine lv_lload hx hb dX1_power_58 (lv_at hl 0 rfl) ?_
  exact W.lret (v := lN (v ^ k % P)) hx hb hr (fun t ht hW => ⟨⟨lN (v ^ k % P), (), rfl, rfl, by rw [ht]; exact hP, va_K.moved hW.alike hK, hD⟩, hS.F ht⟩) hS.2.2 dX1_power_60
set_option maxHeartbeats 4000000 in
set_option maxRecDepth 100000 in
/-- inverse(v) is v^(P-2) mod P -/
theorem m_inverse (l : Launch) (D : va_G) (h0 ra rb P : Nat) (hP1 : 1 < P) (hP2 : P < 2 ^ 30) (v : Nat) (hv : v < P) : k_Ml l yX1_inverse cX1_inverse 3 rk1 D [.ref h0, .long (lN v)] [(h0, .inr (1, [.long (lN P), .ref ra, .ref rb]))] [] (fun r (_ : Unit) => r = lN (nt_iv P v)) (fun (_ : Unit) => [(h0, .inr (1, [.long (lN P), .ref ra, .ref rb]))]) := by
  intro sz
  refine k_met (Qc := fun A => va_Ql (fun r (_ : Unit) => r = lN (nt_iv P v)) (fun (_ : Unit) t => k_B D A [(h0, .inr (1, [.long (lN P), .ref ra, .ref rb]))] [] t) A) (by decide) (Nat.le_of_ble_eq_true rfl) ?_
  intro p e s m below meth c A ls C hP hK hD hA hS hl
  obtain ⟨hx, hb, hml, hr, hlocks, hown, hin, hts⟩ := id C
  have hown : s.vm.findClass RX1 = some m.cls := hown
  have hl : lv_has ls 3 [(0, .ref h0), (1, .long (lN v))] := hl
  refine lv_aload_n hx hb dX1_inverse_0 rfl (lv_at hl 0 rfl) ?_
  refine lv_lload_n hx hb dX1_inverse_1 rfl (lv_at hl 1 rfl) ?_
  refine lv_aload_n hx hb dX1_inverse_2 rfl (lv_at hl 0 rfl) ?_
  refine va_get (D := D) (ci := 1) (v := .long (lN P)) (C := RX1) (T := TX1) (N := 3) hx hb hts in_X1 hown hK hP 0 rfl rfl 0 (by decide) (hts _ q26) (fun _ h9 => h9) rfl dX1_inverse_3 ?_
  refine lv_ldc2 hx hb hown (hts _ q127) dX1_inverse_6 ?_
  refine k_tl (lN 2) rfl ?_
  refine k_lsub hx hb dX1_inverse_9 (by omega) ?_
  refine k_cVl (own := RX1) (wr := []) (wo := fun u => [(h0, .inr (1, [.long (lN P), .ref ra, .ref rb]))]) C rfl (m_power l D h0 ra rb P hP1 hP2 v (P - 2) hv (by omega)) (cwV 2 hts (lw_V q108 q109 q110 q9 q111) rfl rfl rfl (by decide +kernel) ⟨Nat.le_of_ble_eq_true rfl, Nat.le_of_ble_eq_true rfl⟩) hK hP hD hS hA 0 1 rfl rfl rfl [] rfl [0] [] rfl (by decide) rfl (by decide) (by decide) [0] (fun _ => rfl) (by decide) rfl hl.1 rfl (Nat.le_of_ble_eq_true rfl) dX1_inverse_10 ⟨Nat.zero_le _, Nat.zero_le _⟩ (fun r u H locs hw hP hD hS => ?_)
  have hP : va_P D vwCl [(h0, .inr (1, [.long (lN P), .ref ra, .ref rb]))] H := hP
  have hD : va_D A [(h0, .inr (1, [.long (lN P), .ref ra, .ref rb]))] := hD
  exact W.lret (v := r) hx hb hr (fun t ht hW => ⟨⟨r, (), rfl, hw, by rw [ht]; exact hP, va_K.moved hW.alike hK, hD⟩, hS.F ht⟩) hS.2.2 dX1_inverse_13
set_option maxHeartbeats 4000000 in
set_option maxRecDepth 100000 in
/-- root(n) is 3^((P-1)/n) mod P -/
theorem m_root (l : Launch) (D : va_G) (h0 ra rb P : Nat) (hP1 : 1 < P) (hP2 : P < 2 ^ 30) (hP3 : 3 < P) (n : Nat) (hn0 : 0 < n) (hn : n < 2 ^ 31) : k_Ml l yX1_root cX1_root 2 rk1 D [.ref h0, .int (nI n)] [(h0, .inr (1, [.long (lN P), .ref ra, .ref rb]))] [] (fun r (_ : Unit) => r = lN (nt_rt P n)) (fun (_ : Unit) => [(h0, .inr (1, [.long (lN P), .ref ra, .ref rb]))]) := by
  intro sz
  refine k_met (Qc := fun A => va_Ql (fun r (_ : Unit) => r = lN (nt_rt P n)) (fun (_ : Unit) t => k_B D A [(h0, .inr (1, [.long (lN P), .ref ra, .ref rb]))] [] t) A) (by decide) (Nat.le_of_ble_eq_true rfl) ?_
  intro p e s m below meth c A ls C hP hK hD hA hS hl
  obtain ⟨hx, hb, hml, hr, hlocks, hown, hin, hts⟩ := id C
  have hown : s.vm.findClass RX1 = some m.cls := hown
  have hl : lv_has ls 2 [(0, .ref h0), (1, .int (nI n))] := hl
  have hdv : (P - 1) / n ≤ P - 1 := Nat.div_le_self _ _
  refine lv_aload_n hx hb dX1_root_0 rfl (lv_at hl 0 rfl) ?_
  refine lv_ldc2 hx hb hown (hts _ q107) dX1_root_1 ?_
  refine k_tl (lN 3) rfl ?_
  refine lv_aload_n hx hb dX1_root_4 rfl (lv_at hl 0 rfl) ?_
  refine va_get (D := D) (ci := 1) (v := .long (lN P)) (C := RX1) (T := TX1) (N := 3) hx hb hts in_X1 hown hK hP 0 rfl rfl 0 (by decide) (hts _ q26) (fun _ h9 => h9) rfl dX1_root_5 ?_
  refine lv_lconst (v := lN 1) hx hb dX1_root_8 (by decide) ?_
  refine k_lsub hx hb dX1_root_9 (by omega) ?_
  refine lv_iload_n hx hb dX1_root_10 rfl (lv_at hl 1 rfl) ?_
  refine k_i2l hx hb dX1_root_11 (by omega) ?_
  refine k_ldiv hx hb dX1_root_12 (by omega) (by omega) (by omega) ?_
  refine k_cVl (own := RX1) (wr := []) (wo := fun u => [(h0, .inr (1, [.long (lN P), .ref ra, .ref rb]))]) C rfl (m_power l D h0 ra rb P hP1 hP2 3 ((P - 1) / n) hP3 (by omega)) (cwV 2 hts (lw_V q108 q109 q110 q9 q111) rfl rfl rfl (by decide +kernel) ⟨Nat.le_of_ble_eq_true rfl, Nat.le_of_ble_eq_true rfl⟩) hK hP hD hS hA 0 1 rfl rfl rfl [] rfl [0] [] rfl (by decide) rfl (by decide) (by decide) [0] (fun _ => rfl) (by decide) rfl hl.1 rfl (Nat.le_of_ble_eq_true rfl) dX1_root_13 ⟨Nat.zero_le _, Nat.zero_le _⟩ (fun r u H locs hw hP hD hS => ?_)
  have hP : va_P D vwCl [(h0, .inr (1, [.long (lN P), .ref ra, .ref rb]))] H := hP
  have hD : va_D A [(h0, .inr (1, [.long (lN P), .ref ra, .ref rb]))] := hD
  exact W.lret (v := r) hx hb hr (fun t ht hW => ⟨⟨r, (), rfl, hw, by rw [ht]; exact hP, va_K.moved hW.alike hK, hD⟩, hS.F ht⟩) hS.2.2 dX1_root_16
/-- one more bit turned -/
theorem nt_turn {b k i r q : Nat} (hk : k < b) (hr : r = 2 ^ (b - k) * q) (h : r + nt_rev (b - k) (i / 2 ^ k) = nt_rev b i) :
    (nI r ||| nI (i / 2 ^ k % 2 * 2 ^ (b - 1 - k))) = nI (r + i / 2 ^ k % 2 * 2 ^ (b - 1 - k)) ∧ (∃ q', r + i / 2 ^ k % 2 * 2 ^ (b - 1 - k) = 2 ^ (b - (k + 1)) * q') ∧ r + i / 2 ^ k % 2 * 2 ^ (b - 1 - k) + nt_rev (b - (k + 1)) (i / 2 ^ (k + 1)) = nt_rev b i := by
  obtain ⟨d, rfl⟩ : ∃ d, b = k + 1 + d := ⟨b - k - 1, by omega⟩
  rw [show k + 1 + d - k = d + 1 by omega] at h hr
  rw [show k + 1 + d - 1 - k = d by omega, show k + 1 + d - (k + 1) = d by omega]
  rw [nt_rev1, Nat.div_div_eq_div_mul, ← Nat.pow_succ, Nat.succ_eq_add_one] at h
  have hb := Nat.mod_two_eq_zero_or_one (i / 2 ^ k)
  generalize hbit : i / 2 ^ k % 2 = bit at hb h ⊢
  have hp : 0 < 2 ^ d := Nat.two_pow_pos d
  refine ⟨?_, ⟨2 * q + bit, ?_⟩, ?_⟩
  · subst hr
    refine fa_or_sum q ?_
    rw [nt_p2]
    rcases hb with e | e <;> rw [e] <;> omega
  · rw [hr, nt_p2, Nat.mul_add, Nat.mul_comm bit, Nat.mul_assoc, Nat.mul_left_comm]
  · omega
set_option maxHeartbeats 4000000 in
set_option maxRecDepth 100000 in
theorem lp_turned {p : Program} {l : Launch} {e : Env} {R : Room} {s : State} {m : MethodId} {args : Array Value} {below : List Frame} {meth : Method} {c : Code} {Q : State → Prop} {D : va_G} {cells slots : Nat} {i b : Nat} {H : Heap} {locs : List Loc} (C : k_C p s m args meth c yX1_turned cX1_turned 4 (some .int)) (hb9 : b ≤ 9) (hi : i < 2 ^ b)
    (kk : ∀ ls : Array Slot, lv_has ls 4 [(2, .int (nI (nt_rev b i)))] → W p l e R s m args below meth c H locs cells slots Q (F0 m 29 ls [])) :
    ∀ (N k r q : Nat) (ls : Array Slot), b < k + N → k ≤ b → r = 2 ^ (b - k) * q → r + nt_rev (b - k) (i / 2 ^ k) = nt_rev b i → lv_has ls 4 [(0, .int (nI i)), (1, .int (nI b)), (2, .int (nI r)), (3, .int (nI k))] → W p l e R s m args below meth c H locs cells slots Q (F0 m 4 ls []) := by
  obtain ⟨hx, hb, hml, hr, hlocks, hown, hin, hts⟩ := id C
  have hi2 : i < 2 ^ 9 := Nat.lt_of_lt_of_le hi (Nat.pow_le_pow_right (by decide) hb9)
  intro N
  induction N with
  | zero => intro k r q ls h1 h2; exact absurd h1 (by omega)
  | succ N ih =>
    intro k r q ls h1 h2 hq h hl
    refine lv_iload_n hx hb dX1_turned_4 rfl (lv_at hl 3 rfl) ?_
    refine lv_iload_n hx hb dX1_turned_5 rfl (lv_at hl 1 rfl) ?_
    refine k_icmp_ge (tgt := 29) hx hb dX1_turned_6 (by decide) (by omega) (by omega) (fun c1 => ?_) (fun c1 => ?_)
    · have e0 : k = b := by omega
      subst e0
      rw [Nat.sub_self, nt_rev0, Nat.add_zero] at h
      subst h
      exact kk ls (lv_sub hl [2] rfl)
    · obtain ⟨g1, ⟨q2, g2⟩, g3⟩ := nt_turn c1 hq h
      have hp : 2 ^ (b - 1 - k) ≤ 2 ^ 9 := Nat.pow_le_pow_right (by decide) (by omega)
      have hm : i / 2 ^ k % 2 * 2 ^ (b - 1 - k) ≤ 1 * 2 ^ 9 := Nat.mul_le_mul (by omega) hp
      refine lv_iload_n hx hb dX1_turned_9 rfl (lv_at hl 2 rfl) ?_
      refine lv_iload_n hx hb dX1_turned_10 rfl (lv_at hl 0 rfl) ?_
      refine lv_iload_n hx hb dX1_turned_11 rfl (lv_at hl 3 rfl) ?_
      refine lv_ishr hx hb dX1_turned_12 ?_
      refine k_ti (nI (i / 2 ^ k)) (k_shr (by omega) (by omega)) ?_
      refine lv_iconst (v := nI 1) hx hb dX1_turned_13 (by decide) ?_
      refine lv_iand hx hb dX1_turned_14 ?_
      refine k_ti (nI (i / 2 ^ k % 2)) (k_iand1 _) ?_
      refine lv_iload_n hx hb dX1_turned_15 rfl (lv_at hl 1 rfl) ?_
      refine lv_iconst (v := nI 1) hx hb dX1_turned_16 (by decide) ?_
      refine k_isub hx hb dX1_turned_17 (by omega) ?_
      refine lv_iload_n hx hb dX1_turned_18 rfl (lv_at hl 3 rfl) ?_
      refine k_isub hx hb dX1_turned_19 (by omega) ?_
      refine lv_ishl hx hb dX1_turned_20 ?_
      refine k_ti (nI (i / 2 ^ k % 2 * 2 ^ (b - 1 - k))) (k_shl (by omega) (by omega)) ?_
      refine lv_ior hx hb dX1_turned_21 ?_
      refine k_ti (nI (r + i / 2 ^ k % 2 * 2 ^ (b - 1 - k))) g1 ?_
      refine lv_istore_n (lv' := [(2, .int (nI (r + i / 2 ^ k % 2 * 2 ^ (b - 1 - k)))), (0, .int (nI i)), (1, .int (nI b)), (3, .int (nI k))]) hx hb dX1_turned_22 rfl hl (by decide) rfl (fun ls hl => ?_)
      refine lv_iinc (v := nI (k + 1)) (lv' := [(3, .int (nI (k + 1))), (2, .int (nI (r + i / 2 ^ k % 2 * 2 ^ (b - 1 - k)))), (0, .int (nI i)), (1, .int (nI b))]) hx hb dX1_turned_23 hl (k := 3) rfl (k_inc k) (by decide) rfl (fun ls hl => ?_)
      refine lv_goto (tgt := 4) hx hb dX1_turned_26 (by decide) ?_
      exact ih (k + 1) _ q2 ls (by omega) (by omega) g2 g3 (lv_sub hl [2, 3, 1, 0] rfl)
set_option maxHeartbeats 4000000 in
set_option maxRecDepth 100000 in
/-- turned(i, b): the b bits of i, turned -/
theorem m_turned (l : Launch) (D : va_G) (i b : Nat) (hb9 : b ≤ 9) (hi : i < 2 ^ b) : k_Mi l yX1_turned cX1_turned 4 (some .int) rk0 D [.int (nI i), .int (nI b)] [] [] (fun r (_ : Unit) => r = nI (nt_rev b i)) (fun (_ : Unit) => []) := by
  intro sz
  refine k_met (Qc := fun A => va_Qi (fun r (_ : Unit) => r = nI (nt_rev b i)) (fun (_ : Unit) t => k_B D A [] [] t) A) (by decide) (Nat.le_of_ble_eq_true rfl) ?_
  intro p e s m below meth c A ls C hP hK hD hA hS hl
  obtain ⟨hx, hb, hml, hr, hlocks, hown, hin, hts⟩ := id C
  have hl : lv_has ls 4 [(0, .int (nI i)), (1, .int (nI b))] := hl
  refine lv_iconst (v := nI 0) hx hb dX1_turned_0 (by decide) ?_
  refine lv_istore_n (lv' := [(2, .int (nI 0)), (0, .int (nI i)), (1, .int (nI b))]) hx hb dX1_turned_1 rfl hl (by decide) rfl (fun ls hl => ?_)
  refine lv_iconst (v := nI 0) hx hb dX1_turned_2 (by decide) ?_
  refine lv_istore_n (lv' := [(3, .int (nI 0)), (2, .int (nI 0)), (0, .int (nI i)), (1, .int (nI b))]) hx hb dX1_turned_3 rfl hl (by decide) rfl (fun ls hl => ?_)
  refine lp_turned (D := D) C hb9 hi (fun ls hl => ?_) (b + 1) 0 0 0 ls (by omega) (Nat.zero_le _) (by rw [Nat.mul_zero]) (by rw [Nat.sub_zero, Nat.pow_zero, Nat.div_one, Nat.zero_add]) (lv_sub hl [2, 3, 1, 0] rfl)
  refine lv_iload_n hx hb dX1_turned_29 rfl (lv_at hl 0 rfl) ?_
  exact W.iret (v := nI (nt_rev b i)) hx hb hr (fun t ht hW => ⟨⟨nI (nt_rev b i), (), rfl, rfl, by rw [ht]; exact hP, va_K.moved hW.alike hK, hD⟩, hS.F ht⟩) hS.2.2 dX1_turned_30
set_option maxHeartbeats 4000000 in
set_option maxRecDepth 100000 in
/-- of(v): v mod P, from 0 on -/
theorem m_of (l : Launch) (D : va_G) (h0 ra rb P : Nat) (hP1 : 1 < P) (hP2 : P < 2 ^ 30) (z : Int) (hz1 : -(2 ^ 62) ≤ z) (hz2 : z ≤ 2 ^ 62) : k_Ml l yX1_of cX1_of 5 rk0 D [.ref h0, .long (lI z)] [(h0, .inr (1, [.long (lN P), .ref ra, .ref rb]))] [] (fun r (_ : Unit) => r = lN (z % (P : Int)).toNat) (fun (_ : Unit) => [(h0, .inr (1, [.long (lN P), .ref ra, .ref rb]))]) := by
  intro sz
  refine k_met (Qc := fun A => va_Ql (fun r (_ : Unit) => r = lN (z % (P : Int)).toNat) (fun (_ : Unit) t => k_B D A [(h0, .inr (1, [.long (lN P), .ref ra, .ref rb]))] [] t) A) (by decide) (Nat.le_of_ble_eq_true rfl) ?_
  intro p e s m below meth c A ls C hP hK hD hA hS hl
  obtain ⟨hx, hb, hml, hr, hlocks, hown, hin, hts⟩ := id C
  have hown : s.vm.findClass RX1 = some m.cls := hown
  have hl : lv_has ls 5 [(0, .ref h0), (1, .long (lI z))] := hl
  obtain ⟨e1, e2, e3, e4⟩ := k_of hz1 hz2 hP1 hP2
  refine lv_lload_n hx hb dX1_of_0 rfl (lv_at hl 1 rfl) ?_
  refine lv_aload_n hx hb dX1_of_1 rfl (lv_at hl 0 rfl) ?_
  refine va_get (D := D) (ci := 1) (v := .long (lN P)) (C := RX1) (T := TX1) (N := 3) hx hb hts in_X1 hown hK hP 0 rfl rfl 0 (by decide) (hts _ q26) (fun _ h9 => h9) rfl dX1_of_2 ?_
  refine lv_lrem hx hb dX1_of_5 (k_lne (by omega) (by omega)) ?_
  refine k_tl (lI (Int.tmod z P)) e1 ?_
  refine lv_lstore_n (lv' := [(3, .long (lI (Int.tmod z P))), (0, .ref h0), (1, .long (lI z))]) hx hb dX1_of_6 rfl hl (by decide) rfl (fun ls hl => ?_)
  refine lv_lload_n hx hb dX1_of_7 rfl (lv_at hl 0 rfl) ?_
  refine lv_lconst (v := lN 0) hx hb dX1_of_8 (by decide) ?_
  refine W.lcmp hx hb dX1_of_9 ?_
  refine lv_if_ge (tgt := 22) hx hb dX1_of_10 (by decide)  (fun c1 => ?_) (fun c1 => ?_)
  · have c2 := (fa_le64 _ _).mp ((lg_cmp_ge _ _).mp c1)
    rw [lI_toInt (by omega) (by omega), pk_lT (by decide)] at c2
    rw [if_neg (by omega)] at e4
    refine lv_lload_n hx hb dX1_of_22 rfl (lv_at hl 0 rfl) ?_
    exact W.lret (v := lI (Int.tmod z P)) hx hb hr (fun t ht hW => ⟨⟨lI (Int.tmod z P), (), rfl, by rw [e4, lI_nat], by rw [ht]; exact hP, va_K.moved hW.alike hK, hD⟩, hS.F ht⟩) hS.2.2 dX1_of_23
  · have c2 : ¬ (lN 0).toInt ≤ (lI (Int.tmod z P)).toInt := fun h => c1 ((lg_cmp_ge _ _).mpr ((fa_le64 (lN 0) (lI (Int.tmod z P))).mpr h))
    rw [lI_toInt (by omega) (by omega), pk_lT (by decide)] at c2
    rw [if_pos (by omega)] at e4
    refine lv_lload_n hx hb dX1_of_13 rfl (lv_at hl 0 rfl) ?_
    refine lv_aload_n hx hb dX1_of_14 rfl (lv_at hl 1 rfl) ?_
    refine va_get (D := D) (ci := 1) (v := .long (lN P)) (C := RX1) (T := TX1) (N := 3) hx hb hts in_X1 hown hK hP 0 rfl rfl 0 (by decide) (hts _ q26) (fun _ h9 => h9) rfl dX1_of_15 ?_
    refine lv_ladd hx hb dX1_of_18  ?_
    refine k_tl (lN (z % (P : Int)).toNat) (by rw [lI_nat P, lI_add, e4, lI_nat]) ?_
    refine lv_goto (tgt := 23) hx hb dX1_of_19 (by decide) ?_
    exact W.lret (v := lN (z % (P : Int)).toNat) hx hb hr (fun t ht hW => ⟨⟨lN (z % (P : Int)).toNat, (), rfl, rfl, by rw [ht]; exact hP, va_K.moved hW.alike hK, hD⟩, hS.F ht⟩) hS.2.2 dX1_of_23
/-- the row F weighed up to i: F' -/
def nt_wd (P u i n : Nat) (G : Nat → Nat) (F F' : Nat → Int64) : Prop := (∀ j, j < i → F' j = lN (G j * (u ^ j % P) % P)) ∧ ∀ j, i ≤ j → F' j = F j
theorem nt_wd_step {P u i n : Nat} {G : Nat → Nat} {F F' : Nat → Int64} (h : nt_wd P u i n G F F') : nt_wd P u (i + 1) n G F (vp_updL F' i (lN (G i * (u ^ i % P) % P))) := by
  refine ⟨fun j hj => ?_, fun j hj => ?_⟩
  · rcases Nat.lt_or_ge j i with q | q
    · rw [pk_uLn (by omega)]; exact h.1 j q
    · have e : j = i := by omega
      subst e; exact pk_uLs
  · rw [pk_uLn (by omega)]; exact h.2 j (by omega)
set_option maxHeartbeats 4000000 in
set_option maxRecDepth 100000 in
theorem lp_weigh {p : Program} {l : Launch} {e : Env} {R : Room} {s : State} {m : MethodId} {args : Array Value} {below : List Frame} {meth : Method} {c : Code} {Q : State → Prop} {D : va_G} {cells slots : Nat} {A : Nat → Prop} {h0 ra rb P hv n u : Nat} {cJ : ClassId} {G : Nat → Nat} {F : Nat → Int64} (C : k_C p s m args meth c yX1_weigh cX1_weigh 8 none) (hP1 : 1 < P) (hP2 : P < 2 ^ 30) (hn : n ≤ 512) (hu : u < P) (hG : ∀ j, j < n → F j = lN (G j) ∧ G j < P) (hK : va_K D vwCl [(cJ, .long)] s)
    (kk : ∀ (F' : Nat → Int64) (H : Heap) (locs : List Loc) (ls : Array Slot), nt_wd P u n n G F F' → va_P D vwCl [(h0, .inr (1, [.long (lN P), .ref ra, .ref rb])), (hv, .inl (cJ, 512, .inr (.inl F')))] H → va_D A [(h0, .inr (1, [.long (lN P), .ref ra, .ref rb])), (hv, .inl (cJ, 512, .inr (.inl F')))] → va_S A s.heap H locs → W p l e R s m args below meth c H locs cells slots Q (F0 m 45 ls [])) :
    ∀ (N i : Nat) (F' : Nat → Int64) (H : Heap) (locs : List Loc) (ls : Array Slot), n < i + N → i ≤ n → nt_wd P u i n G F F' → va_P D vwCl [(h0, .inr (1, [.long (lN P), .ref ra, .ref rb])), (hv, .inl (cJ, 512, .inr (.inl F')))] H → va_D A [(h0, .inr (1, [.long (lN P), .ref ra, .ref rb])), (hv, .inl (cJ, 512, .inr (.inl F')))] → va_S A s.heap H locs → lv_has ls 8 [(0, .ref h0), (1, .ref hv), (2, .int (nI n)), (3, .long (lN u)), (5, .long (lN (u ^ i % P))), (7, .int (nI i))] → W p l e R s m args below meth c H locs cells slots Q (F0 m 6 ls []) := by
  obtain ⟨hx, hb, hml, hr, hlocks, hown, hin, hts⟩ := id C
  have hown : s.vm.findClass RX1 = some m.cls := hown
  intro N
  induction N with
  | zero => intro i F' H locs ls h1 h2; exact absurd h1 (by omega)
  | succ N ih =>
    intro i F' H locs ls h1 h2 hw hP hD hS hl
    refine lv_iload hx hb dX1_weigh_6 (lv_at hl 5 rfl) ?_
    refine lv_iload_n hx hb dX1_weigh_8 rfl (lv_at hl 2 rfl) ?_
    refine k_icmp_ge (tgt := 45) hx hb dX1_weigh_9 (by decide) (by omega) (by omega) (fun c1 => ?_) (fun c1 => ?_)
    · have e0 : i = n := by omega
      subst e0
      exact kk F' H locs ls hw hP hD hS
    · obtain ⟨g1, g2⟩ := hG i c1
      have g3 : F' i = lN (G i) := (hw.2 i (Nat.le_refl i)).trans g1
      have g4 : u ^ i % P < P := Nat.mod_lt _ (by omega)
      refine lv_aload_n hx hb dX1_weigh_12 rfl (lv_at hl 1 rfl) ?_
      refine lv_iload hx hb dX1_weigh_13 (lv_at hl 5 rfl) ?_
      refine lv_aload_n hx hb dX1_weigh_15 rfl (lv_at hl 1 rfl) ?_
      refine lv_iload hx hb dX1_weigh_16 (lv_at hl 5 rfl) ?_
      refine k_lald hx hb hK hP 1 0 rfl rfl (by omega) (by decide) dX1_weigh_18 ?_
      refine k_tl (lN (G i)) g3 ?_
      refine lv_lload hx hb dX1_weigh_19 (lv_at hl 4 rfl) ?_
      refine k_lmul hx hb dX1_weigh_21  ?_
      refine lv_aload_n hx hb dX1_weigh_22 rfl (lv_at hl 0 rfl) ?_
      refine va_get (D := D) (ci := 1) (v := .long (lN P)) (C := RX1) (T := TX1) (N := 3) hx hb hts in_X1 hown hK hP 0 rfl rfl 0 (by decide) (hts _ q26) (fun _ h9 => h9) rfl dX1_weigh_23 ?_
      refine k_lrem hx hb dX1_weigh_26 (k_mb g2 g4 hP2) (by omega) (by omega) ?_
      refine k_last hx hb hK hP hD hS 1 0 rfl rfl (by omega) (by decide) dX1_weigh_27 (fun H locs hP hD hS => ?_)
      have hP : va_P D vwCl [(h0, .inr (1, [.long (lN P), .ref ra, .ref rb])), (hv, .inl (cJ, 512, .inr (.inl (vp_updL F' i (lN (((G i) * (u ^ i % P)) % P))))))] H := hP
      have hD : va_D A [(h0, .inr (1, [.long (lN P), .ref ra, .ref rb])), (hv, .inl (cJ, 512, .inr (.inl (vp_updL F' i (lN (((G i) * (u ^ i % P)) % P))))))] := hD
      refine lv_lload hx hb dX1_weigh_28 (lv_at hl 4 rfl) ?_
      refine lv_lload_n hx hb dX1_weigh_30 rfl (lv_at hl 3 rfl) ?_
      refine k_lmul hx hb dX1_weigh_31  ?_
      refine lv_aload_n hx hb dX1_weigh_32 rfl (lv_at hl 0 rfl) ?_
      refine va_get (D := D) (ci := 1) (v := .long (lN P)) (C := RX1) (T := TX1) (N := 3) hx hb hts in_X1 hown hK hP 0 rfl rfl 0 (by decide) (hts _ q26) (fun _ h9 => h9) rfl dX1_weigh_33 ?_
      refine k_lrem hx hb dX1_weigh_36 (k_mb g4 hu hP2) (by omega) (by omega) ?_
      refine k_tl (lN (u ^ (i + 1) % P)) (by rw [Nat.mod_mul_mod, ← Nat.pow_succ]) ?_
      refine lv_lstore (lv' := [(5, .long (lN (u ^ (i + 1) % P))), (0, .ref h0), (1, .ref hv), (2, .int (nI n)), (3, .long (lN u)), (7, .int (nI i))]) hx hb dX1_weigh_37 hl (by decide) rfl (fun ls hl => ?_)
      refine lv_iinc (v := nI (i + 1)) (lv' := [(7, .int (nI (i + 1))), (5, .long (lN (u ^ (i + 1) % P))), (0, .ref h0), (1, .ref hv), (2, .int (nI n)), (3, .long (lN u))]) hx hb dX1_weigh_39 hl (k := 5) rfl (k_inc i) (by decide) rfl (fun ls hl => ?_)
      refine lv_goto (tgt := 6) hx hb dX1_weigh_42 (by decide) ?_
      exact ih (i + 1) _ H locs ls (by omega) (by omega) (nt_wd_step hw) hP hD hS (lv_sub hl [2, 3, 4, 5, 1, 0] rfl)
set_option maxHeartbeats 4000000 in
set_option maxRecDepth 100000 in
/-- weigh(v, n, u): the first n places times the powers of u -/
theorem m_weigh (l : Launch) (D : va_G) (h0 ra rb P : Nat) (hP1 : 1 < P) (hP2 : P < 2 ^ 30) (hv n u : Nat) (cJ : ClassId) (G : Nat → Nat) (F : Nat → Int64) (hn : n ≤ 512) (hu : u < P) (hG : ∀ j, j < n → F j = lN (G j) ∧ G j < P) : k_Mv l yX1_weigh cX1_weigh 8 rk0 D [.ref h0, .ref hv, .int (nI n), .long (lN u)] [(h0, .inr (1, [.long (lN P), .ref ra, .ref rb])), (hv, .inl (cJ, 512, .inr (.inl F)))] [(cJ, .long)] (fun F' : Nat → Int64 => nt_wd P u n n G F F') (fun F' => [(h0, .inr (1, [.long (lN P), .ref ra, .ref rb])), (hv, .inl (cJ, 512, .inr (.inl F')))]) (fun _ => [(cJ, .long)]) 0 0 := by
  intro sz
  refine k_met (Qc := fun A => va_Qv (fun F' : Nat → Int64 => nt_wd P u n n G F F') (fun F' t => k_B D A [(h0, .inr (1, [.long (lN P), .ref ra, .ref rb])), (hv, .inl (cJ, 512, .inr (.inl F')))] [(cJ, .long)] t) A) (by decide) (Nat.le_of_ble_eq_true rfl) ?_
  intro p e s m below meth c A ls C hP hK hD hA hS hl
  obtain ⟨hx, hb, hml, hr, hlocks, hown, hin, hts⟩ := id C
  have hown : s.vm.findClass RX1 = some m.cls := hown
  have hl : lv_has ls 8 [(0, .ref h0), (1, .ref hv), (2, .int (nI n)), (3, .long (lN u))] := hl
  refine lv_lconst (v := lN 1) hx hb dX1_weigh_0 (by decide) ?_
  refine lv_lstore (lv' := [(5, .long (lN 1)), (0, .ref h0), (1, .ref hv), (2, .int (nI n)), (3, .long (lN u))]) hx hb dX1_weigh_1 hl (by decide) rfl (fun ls hl => ?_)
  refine lv_iconst (v := nI 0) hx hb dX1_weigh_3 (by decide) ?_
  refine lv_istore (lv' := [(7, .int (nI 0)), (5, .long (lN 1)), (0, .ref h0), (1, .ref hv), (2, .int (nI n)), (3, .long (lN u))]) hx hb dX1_weigh_4 hl (by decide) rfl (fun ls hl => ?_)
  refine lp_weigh C hP1 hP2 hn hu hG hK (fun F' H locs ls hw hP hD hS => ?_) (n + 1) 0 F s.heap [] ls (by omega) (Nat.zero_le _) ⟨fun j hj => absurd hj (Nat.not_lt_zero _), fun _ _ => rfl⟩ hP hD hS ?_
  · exact W.vret hx hb hr (fun t ht hW => ⟨⟨F', rfl, hw, by rw [ht]; exact hP, va_K.moved hW.alike hK, hD⟩, hS.F ht⟩) hS.2.2 dX1_weigh_45
  · rw [Nat.pow_zero, Nat.mod_eq_of_lt hP1]; exact lv_sub hl [2, 3, 4, 5, 1, 0] rfl
set_option maxHeartbeats 4000000 in
set_option maxRecDepth 100000 in
/-- at(i) of a Ring -/
theorem m_rat (l : Launch) (D : va_G) (h0 ra rb P i : Nat) (cJ : ClassId) (F : Nat → Int64) (hi : i < 512) : k_Ml l yX1_at cX1_at 2 rk0 D [.ref h0, .int (nI i)] [(h0, .inr (1, [.long (lN P), .ref ra, .ref rb])), (ra, .inl (cJ, 512, .inr (.inl F)))] [(cJ, .long)] (fun r (_ : Unit) => r = F i) (fun (_ : Unit) => [(h0, .inr (1, [.long (lN P), .ref ra, .ref rb])), (ra, .inl (cJ, 512, .inr (.inl F)))]) := by
  intro sz
  refine k_met (Qc := fun A => va_Ql (fun r (_ : Unit) => r = F i) (fun (_ : Unit) t => k_B D A [(h0, .inr (1, [.long (lN P), .ref ra, .ref rb])), (ra, .inl (cJ, 512, .inr (.inl F)))] [(cJ, .long)] t) A) (by decide) (Nat.le_of_ble_eq_true rfl) ?_
  intro p e s m below meth c A ls C hP hK hD hA hS hl
  obtain ⟨hx, hb, hml, hr, hlocks, hown, hin, hts⟩ := id C
  have hown : s.vm.findClass RX1 = some m.cls := hown
  have hl : lv_has ls 2 [(0, .ref h0), (1, .int (nI i))] := hl
  refine lv_aload_n hx hb dX1_at_0 rfl (lv_at hl 0 rfl) ?_
  refine va_get (D := D) (ci := 1) (v := .ref ra) (C := RX1) (T := TX1) (N := 3) hx hb hts in_X1 hown hK hP 0 rfl rfl 1 (by decide) (hts _ q28) (fun _ h9 => h9) rfl dX1_at_1 ?_
  refine lv_iload_n hx hb dX1_at_4 rfl (lv_at hl 1 rfl) ?_
  refine k_lald hx hb hK hP 1 0 rfl rfl (by omega) (by decide) dX1_at_5 ?_
  exact W.lret (v := F i) hx hb hr (fun t ht hW => ⟨⟨F i, (), rfl, rfl, by rw [ht]; exact hP, va_K.moved hW.alike hK, hD⟩, hS.F ht⟩) hS.2.2 dX1_at_6
end
section
/-! Ring.transform -/
/-- places i and their turned ones exchanged up to i -/
def nt_sw (b i : Nat) (F : Nat → Int64) : Nat → Int64 := fun j => if j < 2 ^ b ∧ (j < i ∨ nt_rev b j < i) then F (nt_rev b j) else F j
theorem nt_sw_0 (b : Nat) (F : Nat → Int64) : nt_sw b 0 F = F := funext fun j => if_neg (by omega)
theorem nt_sw_end {b j : Nat} (F : Nat → Int64) (h : j < 2 ^ b) : nt_sw b (2 ^ b) F j = F (nt_rev b j) := if_pos ⟨h, Or.inl h⟩
theorem nt_sw_skip {b i : Nat} (F : Nat → Int64) (hi : i < 2 ^ b) (h : nt_rev b i ≤ i) : nt_sw b i F = nt_sw b (i + 1) F := by
  funext j
  unfold nt_sw
  have hr := nt_rev_rev b
  by_cases c1 : j < 2 ^ b ∧ (j < i ∨ nt_rev b j < i)
  · rw [if_pos c1, if_pos (by omega)]
  · rw [if_neg c1]
    by_cases c2 : j < 2 ^ b ∧ (j < i + 1 ∨ nt_rev b j < i + 1)
    · rw [if_pos c2]
      have h1 := hr j c2.1
      rcases (show j = i ∨ nt_rev b j = i by omega) with e | e
      · subst e
        rw [show nt_rev b j = j by omega]
      · rw [e] at h1
        rw [e, show j = i by omega]
    · rw [if_neg c2]
theorem nt_sw_step {b i : Nat} (F : Nat → Int64) (hi : i < 2 ^ b) (h : i < nt_rev b i) : vp_updL (vp_updL (nt_sw b i F) i (nt_sw b i F (nt_rev b i))) (nt_rev b i) (nt_sw b i F i) = nt_sw b (i + 1) F := by
  have hr := nt_rev_rev b i hi
  have hl := nt_rev_lt b i
  have e1 : nt_sw b i F (nt_rev b i) = F (nt_rev b i) := if_neg (by rw [hr]; omega)
  have e2 : nt_sw b i F i = F i := if_neg (by omega)
  rw [e1, e2]
  funext j
  by_cases c1 : j = nt_rev b i
  · subst c1
    rw [pk_uLs]
    unfold nt_sw
    rw [hr, if_pos ⟨hl, Or.inr (Nat.lt_succ_self i)⟩]
  · rw [pk_uLn c1]
    by_cases c2 : j = i
    · subst c2
      rw [pk_uLs]
      unfold nt_sw
      rw [if_pos ⟨hi, Or.inl (Nat.lt_succ_self j)⟩]
    · rw [pk_uLn c2]
      unfold nt_sw
      by_cases c3 : j < 2 ^ b ∧ (j < i ∨ nt_rev b j < i)
      · rw [if_pos c3, if_pos (by omega)]
      · rw [if_neg c3, if_neg]
        intro c4
        have h2 := nt_rev_rev b j c4.1
        rcases (show j = i ∨ nt_rev b j = i by omega) with e | e
        · exact c2 e
        · rw [e] at h2
          exact c1 h2.symm
/-- inside a block of a stage: k pairs done -/
def nt_in (P L st n f kk : Nat) (V : Nat → Nat) (F : Nat → Int64) : Prop := (∀ j, j < f → F j = lN (nt_bf P L st V j)) ∧ (∀ k, k < kk → F (f + k) = lN (nt_bf P L st V (f + k)) ∧ F (f + k + L) = lN (nt_bf P L st V (f + k + L))) ∧ (∀ k, kk ≤ k → k < L → F (f + k) = lN (V (f + k)) ∧ F (f + k + L) = lN (V (f + k + L))) ∧ ∀ j, f + 2 * L ≤ j → j < n → F j = lN (V j)
/-- between blocks -/
def nt_mid (P L st n f : Nat) (V : Nat → Nat) (F : Nat → Int64) : Prop := (∀ j, j < f → F j = lN (nt_bf P L st V j)) ∧ ∀ j, f ≤ j → j < n → F j = lN (V j)
theorem nt_in_0 {P L st n f : Nat} {V : Nat → Nat} {F : Nat → Int64} (hf : f + 2 * L ≤ n) (h : nt_mid P L st n f V F) : nt_in P L st n f 0 V F :=
  ⟨h.1, fun k hk => absurd hk (Nat.not_lt_zero _), fun k _ hk => ⟨h.2 _ (by omega) (by omega), h.2 _ (by omega) (by omega)⟩, fun j h1 h2 => h.2 j (by omega) h2⟩
theorem nt_in_end {P L st n f : Nat} {V : Nat → Nat} {F : Nat → Int64} (h : nt_in P L st n f L V F) : nt_mid P L st n (f + 2 * L) V F := by
  refine ⟨fun j hj => ?_, h.2.2.2⟩
  rcases Nat.lt_or_ge j f with q | q
  · exact h.1 j q
  · rcases Nat.lt_or_ge j (f + L) with q2 | q2
    · have h1 := (h.2.1 (j - f) (by omega)).1
      rw [show f + (j - f) = j by omega] at h1
      exact h1
    · have h1 := (h.2.1 (j - f - L) (by omega)).2
      rw [show f + (j - f - L) + L = j by omega] at h1
      exact h1
theorem nt_in_step {P L st n f k : Nat} {V : Nat → Nat} {F : Nat → Int64} (q : Nat) (hq : f = q * (2 * L)) (hk : k < L) (h : nt_in P L st n f k V F) :
    nt_in P L st n f (k + 1) V (vp_updL (vp_updL F (f + k) (lN ((V (f + k) + V (f + k + L) * (st ^ k % P) % P) % P))) (f + k + L) (lN ((V (f + k) + P - V (f + k + L) * (st ^ k % P) % P) % P))) := by
  have b1 := nt_bf_lo P st V q hk
  have b2 := nt_bf_hi P st V q hk
  rw [← hq] at b1 b2
  obtain ⟨h1, h2, h3, h4⟩ := h
  refine ⟨fun j hj => ?_, fun k' hk' => ?_, fun k' g1 g2 => ?_, fun j g1 g2 => ?_⟩
  · rw [pk_uLn (by omega), pk_uLn (by omega)]; exact h1 j hj
  · rcases Nat.lt_or_ge k' k with g | g
    · constructor
      · rw [pk_uLn (by omega), pk_uLn (by omega)]; exact (h2 k' g).1
      · rw [pk_uLn (by omega), pk_uLn (by omega)]; exact (h2 k' g).2
    · have e : k' = k := by omega
      subst e
      constructor
      · rw [pk_uLn (by omega), pk_uLs, b1]
      · rw [pk_uLs, b2]
  · constructor
    · rw [pk_uLn (by omega), pk_uLn (by omega)]; exact (h3 k' (by omega) g2).1
    · rw [pk_uLn (by omega), pk_uLn (by omega)]; exact (h3 k' (by omega) g2).2
  · rw [pk_uLn (by omega), pk_uLn (by omega)]; exact h4 j g1 g2
theorem nt_2b {b : Nat} (h : b ≤ 9) : 2 ^ b ≤ 512 := Nat.pow_le_pow_right (by decide) h
set_option maxHeartbeats 4000000 in
set_option maxRecDepth 100000 in
theorem lp_bits {p : Program} {l : Launch} {e : Env} {R : Room} {s : State} {m : MethodId} {args : Array Value} {below : List Frame} {meth : Method} {c : Code} {Q : State → Prop} {D : va_G} {cells slots : Nat} {h0 hv r b : Nat} {H : Heap} {locs : List Loc} (C : k_C p s m args meth c yX1_transform cX1_transform 17 none) (hb9 : b ≤ 9)
    (kk : ∀ ls : Array Slot, lv_has ls 17 [(0, .ref h0), (1, .ref hv), (2, .int (nI (2 ^ b))), (3, .long (lN r)), (5, .int (nI b))] → W p l e R s m args below meth c H locs cells slots Q (F0 m 17 ls [])) :
    ∀ (N k : Nat) (ls : Array Slot), b < k + N → k ≤ b → lv_has ls 17 [(0, .ref h0), (1, .ref hv), (2, .int (nI (2 ^ b))), (3, .long (lN r)), (5, .int (nI k))] → W p l e R s m args below meth c H locs cells slots Q (F0 m 3 ls []) := by
  obtain ⟨hx, hb, hml, hr, hlocks, hown, hin, hts⟩ := id C
  have hb2 := nt_2b hb9
  intro N
  induction N with
  | zero => intro k ls h1 h2; exact absurd h1 (by omega)
  | succ N ih =>
    intro k ls h1 h2 hl
    have hk2 : 2 ^ k ≤ 2 ^ b := Nat.pow_le_pow_right (by decide) h2
    refine lv_iconst (v := nI 1) hx hb dX1_transform_3 (by decide) ?_
    refine lv_iload hx hb dX1_transform_4 (lv_at hl 4 rfl) ?_
    refine lv_ishl hx hb dX1_transform_6 ?_
    refine k_ti (nI (2 ^ k)) (k_1shl (by omega)) ?_
    refine lv_iload_n hx hb dX1_transform_7 rfl (lv_at hl 2 rfl) ?_
    refine k_icmp_ge (tgt := 17) hx hb dX1_transform_8 (by decide) (by omega) (by omega) (fun c1 => ?_) (fun c1 => ?_)
    · have e0 : k = b := by
        rcases Nat.lt_or_ge k b with q | q
        · have := Nat.pow_lt_pow_right (a := 2) (by decide) q
          omega
        · omega
      subst e0
      exact kk ls (lv_sub hl [0, 1, 2, 3, 4] rfl)
    · have e0 : k < b := by
        rcases Nat.lt_or_ge k b with q | q
        · exact q
        · exact absurd c1 (by rw [show k = b by omega]; exact Nat.lt_irrefl _)
      refine lv_iinc (v := nI (k + 1)) (lv' := [(5, .int (nI (k + 1))), (0, .ref h0), (1, .ref hv), (2, .int (nI (2 ^ b))), (3, .long (lN r))]) hx hb dX1_transform_11 hl (k := 4) rfl (k_inc k) (by decide) rfl (fun ls hl => ?_)
      refine lv_goto (tgt := 3) hx hb dX1_transform_14 (by decide) ?_
      exact ih (k + 1) ls (by omega) (by omega) (lv_sub hl [1, 2, 3, 4, 0] rfl)
set_option maxHeartbeats 4000000 in
set_option maxRecDepth 100000 in
theorem lp_swap {p : Program} {l : Launch} {e : Env} {s : State} {m : MethodId} {args : Array Value} {below : List Frame} {meth : Method} {c : Code} {Q : State → Prop} {D : va_G} {A : Nat → Prop} {h0 ra rb P hv r b : Nat} {cJ : ClassId} {F : Nat → Int64} (C : k_C p s m args meth c yX1_transform cX1_transform 17 none) (hb9 : b ≤ 9) (hA : ∀ q : Nat, s.heap.size ≤ q → A q) (hK : va_K D vwCl [(cJ, .long)] s)
    (kk : ∀ (H : Heap) (locs : List Loc) (ls : Array Slot), va_P D vwCl [(h0, .inr (1, [.long (lN P), .ref ra, .ref rb])), (hv, .inl (cJ, 512, .inr (.inl (nt_sw b (2 ^ b) F))))] H → va_D A [(h0, .inr (1, [.long (lN P), .ref ra, .ref rb])), (hv, .inl (cJ, 512, .inr (.inl (nt_sw b (2 ^ b) F))))] → va_S A s.heap H locs → lv_has ls 17 [(0, .ref h0), (1, .ref hv), (2, .int (nI (2 ^ b))), (3, .long (lN r))] → W p l e rk1 s m args below meth c H locs 0 0 Q (F0 m 71 ls [])) :
    ∀ (N i : Nat) (H : Heap) (locs : List Loc) (ls : Array Slot), 2 ^ b < i + N → i ≤ 2 ^ b → va_P D vwCl [(h0, .inr (1, [.long (lN P), .ref ra, .ref rb])), (hv, .inl (cJ, 512, .inr (.inl (nt_sw b i F))))] H → va_D A [(h0, .inr (1, [.long (lN P), .ref ra, .ref rb])), (hv, .inl (cJ, 512, .inr (.inl (nt_sw b i F))))] → va_S A s.heap H locs → lv_has ls 17 [(0, .ref h0), (1, .ref hv), (2, .int (nI (2 ^ b))), (3, .long (lN r)), (5, .int (nI b)), (6, .int (nI i))] → W p l e rk1 s m args below meth c H locs 0 0 Q (F0 m 20 ls []) := by
  obtain ⟨hx, hb, hml, hr, hlocks, hown, hin, hts⟩ := id C
  have hown : s.vm.findClass RX1 = some m.cls := hown
  have hb2 := nt_2b hb9
  intro N
  induction N with
  | zero => intro i H locs ls h1 h2; exact absurd h1 (by omega)
  | succ N ih =>
    intro i H locs ls h1 h2 hP hD hS hl
    refine lv_iload hx hb dX1_transform_20 (lv_at hl 5 rfl) ?_
    refine lv_iload_n hx hb dX1_transform_22 rfl (lv_at hl 2 rfl) ?_
    refine k_icmp_ge (tgt := 71) hx hb dX1_transform_23 (by decide) (by omega) (by omega) (fun c1 => ?_) (fun c1 => ?_)
    · have e0 : i = 2 ^ b := by omega
      rw [e0] at hP hD
      exact kk H locs ls hP hD hS (lv_sub hl [0, 1, 2, 3] rfl)
    · have hj := nt_rev_lt b i
      refine lv_iload hx hb dX1_transform_26 (lv_at hl 5 rfl) ?_
      refine lv_iload hx hb dX1_transform_28 (lv_at hl 4 rfl) ?_
      refine k_cSi (own := RX1) (wr := [(h0, .inr (1, [.long (lN P), .ref ra, .ref rb])), (hv, .inl (cJ, 512, .inr (.inl (nt_sw b i F))))]) (wo := fun u => [(h0, .inr (1, [.long (lN P), .ref ra, .ref rb])), (hv, .inl (cJ, 512, .inr (.inl (nt_sw b i F))))]) C rfl (m_turned l D i b hb9 c1) (va_cwS 2 hts (lw_S q120 q121 q9 q122) rfl rfl rfl (by decide +kernel) ⟨Nat.le_of_ble_eq_true rfl, Nat.le_of_ble_eq_true rfl⟩) hK hP hD hS hA [] rfl [] [0, 1] rfl (by decide) rfl (by decide) (by decide) [0, 1] (fun _ => rfl) (by decide) rfl hl.1 rfl (Nat.le_of_ble_eq_true rfl) dX1_transform_30 ⟨Nat.zero_le _, Nat.zero_le _⟩ (fun j u H locs hw hP hD hS => ?_)
      have hP : va_P D vwCl [(h0, .inr (1, [.long (lN P), .ref ra, .ref rb])), (hv, .inl (cJ, 512, .inr (.inl (nt_sw b i F))))] H := hP
      have hD : va_D A [(h0, .inr (1, [.long (lN P), .ref ra, .ref rb])), (hv, .inl (cJ, 512, .inr (.inl (nt_sw b i F))))] := hD
      refine k_ti (nI (nt_rev b i)) hw ?_
      refine lv_istore (lv' := [(7, .int (nI (nt_rev b i))), (0, .ref h0), (1, .ref hv), (2, .int (nI (2 ^ b))), (3, .long (lN r)), (5, .int (nI b)), (6, .int (nI i))]) hx hb dX1_transform_33 hl (by decide) rfl (fun ls hl => ?_)
      refine lv_iload hx hb dX1_transform_35 (lv_at hl 6 rfl) ?_
      refine lv_iload hx hb dX1_transform_37 (lv_at hl 0 rfl) ?_
      refine k_icmp_lt (tgt := 45) hx hb dX1_transform_39 (by decide) (by omega) (by omega) (fun c2 => ?_) (fun c2 => ?_)
      · refine lv_aload_n hx hb dX1_transform_45 rfl (lv_at hl 2 rfl) ?_
        refine lv_iload hx hb dX1_transform_46 (lv_at hl 6 rfl) ?_
        refine k_lald hx hb hK hP 1 0 rfl rfl (by omega) (by decide) dX1_transform_48 ?_
        refine lv_lstore (lv' := [(8, .long ((nt_sw b i F) i)), (7, .int (nI (nt_rev b i))), (0, .ref h0), (1, .ref hv), (2, .int (nI (2 ^ b))), (3, .long (lN r)), (5, .int (nI b)), (6, .int (nI i))]) hx hb dX1_transform_49 hl (by decide) rfl (fun ls hl => ?_)
        refine lv_aload_n hx hb dX1_transform_51 rfl (lv_at hl 3 rfl) ?_
        refine lv_iload hx hb dX1_transform_52 (lv_at hl 7 rfl) ?_
        refine lv_aload_n hx hb dX1_transform_54 rfl (lv_at hl 3 rfl) ?_
        refine lv_iload hx hb dX1_transform_55 (lv_at hl 1 rfl) ?_
        refine k_lald hx hb hK hP 1 0 rfl rfl (by omega) (by decide) dX1_transform_57 ?_
        refine k_last hx hb hK hP hD hS 1 0 rfl rfl (by omega) (by decide) dX1_transform_58 (fun H locs hP hD hS => ?_)
        have hP : va_P D vwCl [(h0, .inr (1, [.long (lN P), .ref ra, .ref rb])), (hv, .inl (cJ, 512, .inr (.inl (vp_updL (nt_sw b i F) i ((nt_sw b i F) (nt_rev b i))))))] H := hP
        have hD : va_D A [(h0, .inr (1, [.long (lN P), .ref ra, .ref rb])), (hv, .inl (cJ, 512, .inr (.inl (vp_updL (nt_sw b i F) i ((nt_sw b i F) (nt_rev b i))))))] := hD
        refine lv_aload_n hx hb dX1_transform_59 rfl (lv_at hl 3 rfl) ?_
        refine lv_iload hx hb dX1_transform_60 (lv_at hl 1 rfl) ?_
        refine lv_lload hx hb dX1_transform_62 (lv_at hl 0 rfl) ?_
        refine k_last hx hb hK hP hD hS 1 0 rfl rfl (by omega) (by decide) dX1_transform_64 (fun H locs hP hD hS => ?_)
        have hP : va_P D vwCl [(h0, .inr (1, [.long (lN P), .ref ra, .ref rb])), (hv, .inl (cJ, 512, .inr (.inl (vp_updL (vp_updL (nt_sw b i F) i ((nt_sw b i F) (nt_rev b i))) (nt_rev b i) ((nt_sw b i F) i)))))] H := hP
        have hD : va_D A [(h0, .inr (1, [.long (lN P), .ref ra, .ref rb])), (hv, .inl (cJ, 512, .inr (.inl (vp_updL (vp_updL (nt_sw b i F) i ((nt_sw b i F) (nt_rev b i))) (nt_rev b i) ((nt_sw b i F) i)))))] := hD
        refine lv_iinc (v := nI (i + 1)) (lv' := [(6, .int (nI (i + 1))), (8, .long ((nt_sw b i F) i)), (7, .int (nI (nt_rev b i))), (0, .ref h0), (1, .ref hv), (2, .int (nI (2 ^ b))), (3, .long (lN r)), (5, .int (nI b))]) hx hb dX1_transform_65 hl (k := 7) rfl (k_inc i) (by decide) rfl (fun ls hl => ?_)
        refine lv_goto (tgt := 20) hx hb dX1_transform_68 (by decide) ?_
        rw [nt_sw_step F c1 c2] at hP hD
        exact ih (i + 1) H locs ls (by omega) (by omega) hP hD hS (lv_sub hl [3, 4, 5, 6, 7, 0] rfl)
      · refine lv_goto (tgt := 65) hx hb dX1_transform_42 (by decide) ?_
        refine lv_iinc (v := nI (i + 1)) (lv' := [(6, .int (nI (i + 1))), (7, .int (nI (nt_rev b i))), (0, .ref h0), (1, .ref hv), (2, .int (nI (2 ^ b))), (3, .long (lN r)), (5, .int (nI b))]) hx hb dX1_transform_65 hl (k := 6) rfl (k_inc i) (by decide) rfl (fun ls hl => ?_)
        refine lv_goto (tgt := 20) hx hb dX1_transform_68 (by decide) ?_
        rw [nt_sw_skip F c1 c2] at hP hD
        exact ih (i + 1) H locs ls (by omega) (by omega) hP hD hS (lv_sub hl [2, 3, 4, 5, 6, 0] rfl)
set_option maxHeartbeats 4000000 in
set_option maxRecDepth 100000 in
theorem lp_pairs {p : Program} {l : Launch} {e : Env} {R : Room} {s : State} {m : MethodId} {args : Array Value} {below : List Frame} {meth : Method} {c : Code} {Q : State → Prop} {D : va_G} {cells slots : Nat} {A : Nat → Prop} {h0 ra rb P hv r b n L st f q : Nat} {cJ : ClassId} {V : Nat → Nat} (C : k_C p s m args meth c yX1_transform cX1_transform 17 none) (hP1 : 1 < P) (hP2 : P < 2 ^ 30) (hst : st < P) (hq : f = q * (2 * L)) (hf : f + 2 * L ≤ n) (hn : n ≤ 512) (hV : ∀ j, j < n → V j < P) (hK : va_K D vwCl [(cJ, .long)] s)
    (kk : ∀ (F' : Nat → Int64) (H : Heap) (locs : List Loc) (ls : Array Slot), nt_in P L st n f L V F' → va_P D vwCl [(h0, .inr (1, [.long (lN P), .ref ra, .ref rb])), (hv, .inl (cJ, 512, .inr (.inl F')))] H → va_D A [(h0, .inr (1, [.long (lN P), .ref ra, .ref rb])), (hv, .inl (cJ, 512, .inr (.inl F')))] → va_S A s.heap H locs → lv_has ls 17 [(0, .ref h0), (1, .ref hv), (2, .int (nI (2 ^ b))), (3, .long (lN r)), (6, .int (nI L)), (7, .long (lN st)), (9, .int (nI f))] → W p l e R s m args below meth c H locs cells slots Q (F0 m 197 ls [])) :
    ∀ (N k : Nat) (F' : Nat → Int64) (H : Heap) (locs : List Loc) (ls : Array Slot), L < k + N → k ≤ L → nt_in P L st n f k V F' → va_P D vwCl [(h0, .inr (1, [.long (lN P), .ref ra, .ref rb])), (hv, .inl (cJ, 512, .inr (.inl F')))] H → va_D A [(h0, .inr (1, [.long (lN P), .ref ra, .ref rb])), (hv, .inl (cJ, 512, .inr (.inl F')))] → va_S A s.heap H locs → lv_has ls 17 [(0, .ref h0), (1, .ref hv), (2, .int (nI (2 ^ b))), (3, .long (lN r)), (6, .int (nI L)), (7, .long (lN st)), (9, .int (nI f)), (10, .long (lN (st ^ k % P))), (12, .int (nI (f + k)))] → W p l e R s m args below meth c H locs cells slots Q (F0 m 110 ls []) := by
  obtain ⟨hx, hb, hml, hr, hlocks, hown, hin, hts⟩ := id C
  have hown : s.vm.findClass RX1 = some m.cls := hown
  intro N
  induction N with
  | zero => intro k F' H locs ls h1 h2; exact absurd h1 (by omega)
  | succ N ih =>
    intro k F' H locs ls h1 h2 hI hP hD hS hl
    refine lv_iload hx hb dX1_transform_110 (lv_at hl 8 rfl) ?_
    refine lv_iload hx hb dX1_transform_112 (lv_at hl 6 rfl) ?_
    refine lv_iload hx hb dX1_transform_114 (lv_at hl 4 rfl) ?_
    refine k_iadd hx hb dX1_transform_116  ?_
    refine k_icmp_ge (tgt := 197) hx hb dX1_transform_117 (by decide) (by omega) (by omega) (fun c1 => ?_) (fun c1 => ?_)
    · have e0 : k = L := by omega
      rw [e0] at hI
      exact kk F' H locs ls hI hP hD hS (lv_sub hl [0, 1, 2, 3, 4, 5, 6] rfl)
    · have hk : k < L := by omega
      obtain ⟨g1, g2⟩ := hI.2.2.1 k (Nat.le_refl k) hk
      have g3 := hV (f + k) (by omega)
      have g4 := hV (f + k + L) (by omega)
      have g5 : st ^ k % P < P := Nat.mod_lt _ (by omega)
      have g6 : V (f + k + L) * (st ^ k % P) % P < P := Nat.mod_lt _ (by omega)
      refine lv_aload_n hx hb dX1_transform_120 rfl (lv_at hl 1 rfl) ?_
      refine lv_iload hx hb dX1_transform_121 (lv_at hl 8 rfl) ?_
      refine k_lald hx hb hK hP 1 0 rfl rfl (by omega) (by decide) dX1_transform_123 ?_
      refine k_tl (lN (V (f + k))) g1 ?_
      refine lv_lstore (lv' := [(13, .long (lN (V (f + k)))), (0, .ref h0), (1, .ref hv), (2, .int (nI (2 ^ b))), (3, .long (lN r)), (6, .int (nI L)), (7, .long (lN st)), (9, .int (nI f)), (10, .long (lN (st ^ k % P))), (12, .int (nI (f + k)))]) hx hb dX1_transform_124 hl (by decide) rfl (fun ls hl => ?_)
      refine lv_aload_n hx hb dX1_transform_126 rfl (lv_at hl 2 rfl) ?_
      refine lv_iload hx hb dX1_transform_127 (lv_at hl 9 rfl) ?_
      refine lv_iload hx hb dX1_transform_129 (lv_at hl 5 rfl) ?_
      refine k_iadd hx hb dX1_transform_131  ?_
      refine k_lald hx hb hK hP 1 0 rfl rfl (by omega) (by decide) dX1_transform_132 ?_
      refine k_tl (lN (V (f + k + L))) g2 ?_
      refine lv_lload hx hb dX1_transform_133 (lv_at hl 8 rfl) ?_
      refine k_lmul hx hb dX1_transform_135  ?_
      refine lv_aload_n hx hb dX1_transform_136 rfl (lv_at hl 1 rfl) ?_
      refine va_get (D := D) (ci := 1) (v := .long (lN P)) (C := RX1) (T := TX1) (N := 3) hx hb hts in_X1 hown hK hP 0 rfl rfl 0 (by decide) (hts _ q26) (fun _ h9 => h9) rfl dX1_transform_137 ?_
      refine k_lrem hx hb dX1_transform_140 (k_mb g4 g5 hP2) (by omega) (by omega) ?_
      refine lv_lstore (lv' := [(15, .long (lN (((V (f + k + L)) * (st ^ k % P)) % P))), (13, .long (lN (V (f + k)))), (0, .ref h0), (1, .ref hv), (2, .int (nI (2 ^ b))), (3, .long (lN r)), (6, .int (nI L)), (7, .long (lN st)), (9, .int (nI f)), (10, .long (lN (st ^ k % P))), (12, .int (nI (f + k)))]) hx hb dX1_transform_141 hl (by decide) rfl (fun ls hl => ?_)
      refine lv_aload_n hx hb dX1_transform_143 rfl (lv_at hl 3 rfl) ?_
      refine lv_iload hx hb dX1_transform_144 (lv_at hl 10 rfl) ?_
      refine lv_lload hx hb dX1_transform_146 (lv_at hl 1 rfl) ?_
      refine lv_lload hx hb dX1_transform_148 (lv_at hl 0 rfl) ?_
      refine k_ladd hx hb dX1_transform_150  ?_
      refine lv_aload_n hx hb dX1_transform_151 rfl (lv_at hl 2 rfl) ?_
      refine va_get (D := D) (ci := 1) (v := .long (lN P)) (C := RX1) (T := TX1) (N := 3) hx hb hts in_X1 hown hK hP 0 rfl rfl 0 (by decide) (hts _ q26) (fun _ h9 => h9) rfl dX1_transform_152 ?_
      refine k_lrem hx hb dX1_transform_155 (by omega) (by omega) (by omega) ?_
      refine k_last hx hb hK hP hD hS 1 0 rfl rfl (by omega) (by decide) dX1_transform_156 (fun H locs hP hD hS => ?_)
      have hP : va_P D vwCl [(h0, .inr (1, [.long (lN P), .ref ra, .ref rb])), (hv, .inl (cJ, 512, .inr (.inl (vp_updL F' (f + k) (lN (((V (f + k)) + (((V (f + k + L)) * (st ^ k % P)) % P)) % P))))))] H := hP
      have hD : va_D A [(h0, .inr (1, [.long (lN P), .ref ra, .ref rb])), (hv, .inl (cJ, 512, .inr (.inl (vp_updL F' (f + k) (lN (((V (f + k)) + (((V (f + k + L)) * (st ^ k % P)) % P)) % P))))))] := hD
      refine lv_aload_n hx hb dX1_transform_157 rfl (lv_at hl 3 rfl) ?_
      refine lv_iload hx hb dX1_transform_158 (lv_at hl 10 rfl) ?_
      refine lv_iload hx hb dX1_transform_160 (lv_at hl 6 rfl) ?_
      refine k_iadd hx hb dX1_transform_162  ?_
      refine lv_lload hx hb dX1_transform_163 (lv_at hl 1 rfl) ?_
      refine lv_lload hx hb dX1_transform_165 (lv_at hl 0 rfl) ?_
      refine lv_lsub hx hb dX1_transform_167  ?_
      refine lv_aload_n hx hb dX1_transform_168 rfl (lv_at hl 2 rfl) ?_
      refine va_get (D := D) (ci := 1) (v := .long (lN P)) (C := RX1) (T := TX1) (N := 3) hx hb hts in_X1 hown hK hP 0 rfl rfl 0 (by decide) (hts _ q26) (fun _ h9 => h9) rfl dX1_transform_169 ?_
      refine lv_ladd hx hb dX1_transform_172  ?_
      refine k_tl (lN (V (f + k) + P - V (f + k + L) * (st ^ k % P) % P)) (k_lsa (by omega)) ?_
      refine lv_aload_n hx hb dX1_transform_173 rfl (lv_at hl 2 rfl) ?_
      refine va_get (D := D) (ci := 1) (v := .long (lN P)) (C := RX1) (T := TX1) (N := 3) hx hb hts in_X1 hown hK hP 0 rfl rfl 0 (by decide) (hts _ q26) (fun _ h9 => h9) rfl dX1_transform_174 ?_
      refine k_lrem hx hb dX1_transform_177 (by omega) (by omega) (by omega) ?_
      refine k_last hx hb hK hP hD hS 1 0 rfl rfl (by omega) (by decide) dX1_transform_178 (fun H locs hP hD hS => ?_)
      have hP : va_P D vwCl [(h0, .inr (1, [.long (lN P), .ref ra, .ref rb])), (hv, .inl (cJ, 512, .inr (.inl (vp_updL (vp_updL F' (f + k) (lN (((V (f + k)) + (((V (f + k + L)) * (st ^ k % P)) % P)) % P))) ((f + k) + L) (lN ((V (f + k) + P - V (f + k + L) * (st ^ k % P) % P) % P))))))] H := hP
      have hD : va_D A [(h0, .inr (1, [.long (lN P), .ref ra, .ref rb])), (hv, .inl (cJ, 512, .inr (.inl (vp_updL (vp_updL F' (f + k) (lN (((V (f + k)) + (((V (f + k + L)) * (st ^ k % P)) % P)) % P))) ((f + k) + L) (lN ((V (f + k) + P - V (f + k + L) * (st ^ k % P) % P) % P))))))] := hD
      refine lv_lload hx hb dX1_transform_179 (lv_at hl 9 rfl) ?_
      refine lv_lload hx hb dX1_transform_181 (lv_at hl 7 rfl) ?_
      refine k_lmul hx hb dX1_transform_183  ?_
      refine lv_aload_n hx hb dX1_transform_184 rfl (lv_at hl 2 rfl) ?_
      refine va_get (D := D) (ci := 1) (v := .long (lN P)) (C := RX1) (T := TX1) (N := 3) hx hb hts in_X1 hown hK hP 0 rfl rfl 0 (by decide) (hts _ q26) (fun _ h9 => h9) rfl dX1_transform_185 ?_
      refine k_lrem hx hb dX1_transform_188 (k_mb g5 hst hP2) (by omega) (by omega) ?_
      refine k_tl (lN (st ^ (k + 1) % P)) (by rw [Nat.mod_mul_mod, ← Nat.pow_succ]) ?_
      refine lv_lstore (lv' := [(10, .long (lN (st ^ (k + 1) % P))), (15, .long (lN (((V (f + k + L)) * (st ^ k % P)) % P))), (13, .long (lN (V (f + k)))), (0, .ref h0), (1, .ref hv), (2, .int (nI (2 ^ b))), (3, .long (lN r)), (6, .int (nI L)), (7, .long (lN st)), (9, .int (nI f)), (12, .int (nI (f + k)))]) hx hb dX1_transform_189 hl (by decide) rfl (fun ls hl => ?_)
      refine lv_iinc (v := nI (f + (k + 1))) (lv' := [(12, .int (nI (f + (k + 1)))), (10, .long (lN (st ^ (k + 1) % P))), (15, .long (lN (((V (f + k + L)) * (st ^ k % P)) % P))), (13, .long (lN (V (f + k)))), (0, .ref h0), (1, .ref hv), (2, .int (nI (2 ^ b))), (3, .long (lN r)), (6, .int (nI L)), (7, .long (lN st)), (9, .int (nI f))]) hx hb dX1_transform_191 hl (k := 10) rfl (k_inc (f + k)) (by decide) rfl (fun ls hl => ?_)
      refine lv_goto (tgt := 110) hx hb dX1_transform_194 (by decide) ?_
      exact ih (k + 1) _ H locs ls (by omega) (by omega) (nt_in_step q hq hk hI) hP hD hS (lv_sub hl [4, 5, 6, 7, 8, 9, 10, 1, 0] rfl)
set_option maxHeartbeats 4000000 in
set_option maxRecDepth 100000 in
theorem lp_blocks {p : Program} {l : Launch} {e : Env} {R : Room} {s : State} {m : MethodId} {args : Array Value} {below : List Frame} {meth : Method} {c : Code} {Q : State → Prop} {D : va_G} {cells slots : Nat} {A : Nat → Prop} {h0 ra rb P hv r b L st M : Nat} {cJ : ClassId} {V : Nat → Nat} (C : k_C p s m args meth c yX1_transform cX1_transform 17 none) (hP1 : 1 < P) (hP2 : P < 2 ^ 30) (hst : st < P) (hL : 0 < L) (hM : 2 ^ b = M * (2 * L)) (hn : 2 ^ b ≤ 512) (hV : ∀ j, j < 2 ^ b → V j < P) (hK : va_K D vwCl [(cJ, .long)] s)
    (kk : ∀ (F' : Nat → Int64) (H : Heap) (locs : List Loc) (ls : Array Slot), nt_mid P L st (2 ^ b) (2 ^ b) V F' → va_P D vwCl [(h0, .inr (1, [.long (lN P), .ref ra, .ref rb])), (hv, .inl (cJ, 512, .inr (.inl F')))] H → va_D A [(h0, .inr (1, [.long (lN P), .ref ra, .ref rb])), (hv, .inl (cJ, 512, .inr (.inl F')))] → va_S A s.heap H locs → lv_has ls 17 [(0, .ref h0), (1, .ref hv), (2, .int (nI (2 ^ b))), (3, .long (lN r)), (6, .int (nI L))] → W p l e R s m args below meth c H locs cells slots Q (F0 m 209 ls [])) :
    ∀ (N q : Nat) (F' : Nat → Int64) (H : Heap) (locs : List Loc) (ls : Array Slot), M < q + N → q ≤ M → nt_mid P L st (2 ^ b) (q * (2 * L)) V F' → va_P D vwCl [(h0, .inr (1, [.long (lN P), .ref ra, .ref rb])), (hv, .inl (cJ, 512, .inr (.inl F')))] H → va_D A [(h0, .inr (1, [.long (lN P), .ref ra, .ref rb])), (hv, .inl (cJ, 512, .inr (.inl F')))] → va_S A s.heap H locs → lv_has ls 17 [(0, .ref h0), (1, .ref hv), (2, .int (nI (2 ^ b))), (3, .long (lN r)), (6, .int (nI L)), (7, .long (lN st)), (9, .int (nI (q * (2 * L))))] → W p l e R s m args below meth c H locs cells slots Q (F0 m 97 ls []) := by
  obtain ⟨hx, hb, hml, hr, hlocks, hown, hin, hts⟩ := id C
  intro N
  induction N with
  | zero => intro q F' H locs ls h1 h2; exact absurd h1 (by omega)
  | succ N ih =>
    intro q F' H locs ls h1 h2 hI hP hD hS hl
    have hqM : q * (2 * L) ≤ M * (2 * L) := Nat.mul_le_mul_right _ h2
    refine lv_iload hx hb dX1_transform_97 (lv_at hl 6 rfl) ?_
    refine lv_iload_n hx hb dX1_transform_99 rfl (lv_at hl 2 rfl) ?_
    refine k_icmp_ge (tgt := 209) hx hb dX1_transform_100 (by decide) (by omega) (by omega) (fun c1 => ?_) (fun c1 => ?_)
    · rw [show q * (2 * L) = 2 ^ b by omega] at hI
      exact kk F' H locs ls hI hP hD hS (lv_sub hl [0, 1, 2, 3, 4] rfl)
    · have hq1 : q < M := by
        rcases Nat.lt_or_ge q M with g | g
        · exact g
        · exact absurd c1 (by rw [hM, show q = M by omega]; exact Nat.lt_irrefl _)
      have hq2 : (q + 1) * (2 * L) ≤ M * (2 * L) := Nat.mul_le_mul_right _ hq1
      have hq3 : (q + 1) * (2 * L) = q * (2 * L) + 2 * L := by rw [Nat.add_mul, Nat.one_mul]
      refine lv_lconst (v := lN 1) hx hb dX1_transform_103 (by decide) ?_
      refine lv_lstore (lv' := [(10, .long (lN 1)), (0, .ref h0), (1, .ref hv), (2, .int (nI (2 ^ b))), (3, .long (lN r)), (6, .int (nI L)), (7, .long (lN st)), (9, .int (nI (q * (2 * L))))]) hx hb dX1_transform_104 hl (by decide) rfl (fun ls hl => ?_)
      refine lv_iload hx hb dX1_transform_106 (lv_at hl 7 rfl) ?_
      refine lv_istore (lv' := [(12, .int (nI (q * (2 * L)))), (10, .long (lN 1)), (0, .ref h0), (1, .ref hv), (2, .int (nI (2 ^ b))), (3, .long (lN r)), (6, .int (nI L)), (7, .long (lN st)), (9, .int (nI (q * (2 * L))))]) hx hb dX1_transform_108 hl (by decide) rfl (fun ls hl => ?_)
      refine lp_pairs (n := 2 ^ b) (b := b) (r := r) C hP1 hP2 hst rfl (by omega) hn hV hK (fun F' H locs ls hI hP hD hS hl => ?_) (L + 1) 0 F' H locs ls (by omega) (Nat.zero_le _) (nt_in_0 (by omega) hI) hP hD hS ?_
      · refine lv_iload hx hb dX1_transform_197 (lv_at hl 6 rfl) ?_
        refine lv_iconst (v := nI 2) hx hb dX1_transform_199 (by decide) ?_
        refine lv_iload hx hb dX1_transform_200 (lv_at hl 4 rfl) ?_
        refine k_imul hx hb dX1_transform_202  ?_
        refine k_iadd hx hb dX1_transform_203  ?_
        refine k_ti (nI ((q + 1) * (2 * L))) (by rw [hq3]) ?_
        refine lv_istore (lv' := [(9, .int (nI ((q + 1) * (2 * L)))), (0, .ref h0), (1, .ref hv), (2, .int (nI (2 ^ b))), (3, .long (lN r)), (6, .int (nI L)), (7, .long (lN st))]) hx hb dX1_transform_204 hl (by decide) rfl (fun ls hl => ?_)
        refine lv_goto (tgt := 97) hx hb dX1_transform_206 (by decide) ?_
        exact ih (q + 1) _ H locs ls (by omega) (by omega) (by rw [hq3]; exact nt_in_end hI) hP hD hS (lv_sub hl [1, 2, 3, 4, 5, 6, 0] rfl)
      · rw [Nat.pow_zero, Nat.mod_eq_of_lt hP1, Nat.add_zero]
        exact (lv_sub hl [2, 3, 4, 5, 6, 7, 8, 1, 0] rfl)
set_option maxHeartbeats 4000000 in
set_option maxRecDepth 100000 in
theorem lp_stage {p : Program} {l : Launch} {e : Env} {s : State} {m : MethodId} {args : Array Value} {below : List Frame} {meth : Method} {c : Code} {Q : State → Prop} {D : va_G} {A : Nat → Prop} {h0 ra rb P hv r b : Nat} {cJ : ClassId} {G : Nat → Nat} (C : k_C p s m args meth c yX1_transform cX1_transform 17 none) (hP1 : 1 < P) (hP2 : P < 2 ^ 30) (hr0 : r < P) (hb9 : b ≤ 9) (hrr : ∀ m, m + 1 = b → nt_c P ((r : Int) ^ (2 ^ m)) (-1)) (hA : ∀ q : Nat, s.heap.size ≤ q → A q) (hK : va_K D vwCl [(cJ, .long)] s)
    (kk : ∀ (V : Nat → Nat) (F' : Nat → Int64) (H : Heap) (locs : List Loc) (ls : Array Slot), (∀ j, j < 2 ^ b → F' j = lN (V j) ∧ V j < P) → nt_st P G r b 0 V → va_P D vwCl [(h0, .inr (1, [.long (lN P), .ref ra, .ref rb])), (hv, .inl (cJ, 512, .inr (.inl F')))] H → va_D A [(h0, .inr (1, [.long (lN P), .ref ra, .ref rb])), (hv, .inl (cJ, 512, .inr (.inl F')))] → va_S A s.heap H locs → W p l e rk1 s m args below meth c H locs 0 0 Q (F0 m 218 ls [])) :
    ∀ (N s0 m0 : Nat) (V : Nat → Nat) (F' : Nat → Int64) (H : Heap) (locs : List Loc) (ls : Array Slot), b < s0 + N → s0 + m0 = b → (∀ j, j < 2 ^ b → F' j = lN (V j) ∧ V j < P) → nt_st P G r s0 m0 V → va_P D vwCl [(h0, .inr (1, [.long (lN P), .ref ra, .ref rb])), (hv, .inl (cJ, 512, .inr (.inl F')))] H → va_D A [(h0, .inr (1, [.long (lN P), .ref ra, .ref rb])), (hv, .inl (cJ, 512, .inr (.inl F')))] → va_S A s.heap H locs → lv_has ls 17 [(0, .ref h0), (1, .ref hv), (2, .int (nI (2 ^ b))), (3, .long (lN r)), (6, .int (nI (2 ^ s0)))] → W p l e rk1 s m args below meth c H locs 0 0 Q (F0 m 74 ls []) := by
  obtain ⟨hx, hb, hml, hr, hlocks, hown, hin, hts⟩ := id C
  have hown : s.vm.findClass RX1 = some m.cls := hown
  have hb2 := nt_2b hb9
  intro N
  induction N with
  | zero => intro s0 m0 V F' H locs ls h1 h2; exact absurd h1 (by omega)
  | succ N ih =>
    intro s0 m0 V F' H locs ls h1 h2 hV hI hP hD hS hl
    have hs2 : 2 ^ s0 ≤ 2 ^ b := Nat.pow_le_pow_right (by decide) (by omega)
    refine lv_iload hx hb dX1_transform_74 (lv_at hl 4 rfl) ?_
    refine lv_iload_n hx hb dX1_transform_76 rfl (lv_at hl 2 rfl) ?_
    refine k_icmp_ge (tgt := 218) hx hb dX1_transform_77 (by decide) (by omega) (by omega) (fun c1 => ?_) (fun c1 => ?_)
    · have e0 : s0 = b := by
        rcases Nat.lt_or_ge s0 b with q | q
        · have := Nat.pow_lt_pow_right (a := 2) (by decide) q
          omega
        · omega
      subst e0
      have e1 : m0 = 0 := by omega
      subst e1
      exact kk V F' H locs ls hV hI hP hD hS
    · obtain ⟨m1, rfl⟩ : ∃ m1, m0 = m1 + 1 := by
        cases m0 with
        | zero => exact absurd c1 (by rw [show s0 = b by omega]; exact Nat.lt_irrefl _)
        | succ m1 => exact ⟨m1, rfl⟩
      have hM : 2 ^ b = 2 ^ m1 * (2 * 2 ^ s0) := by rw [← nt_p2, ← Nat.pow_add, show m1 + (s0 + 1) = b by omega]
      have hs0 : 0 < 2 ^ s0 := Nat.two_pow_pos s0
      have hdv : 2 ^ b / (2 * 2 ^ s0) = 2 ^ m1 := by rw [hM]; exact Nat.mul_div_cancel _ (by omega)
      have hm1 : 2 ^ m1 ≤ 2 ^ 9 := Nat.pow_le_pow_right (by decide) (by omega)
      have hst : r ^ (2 ^ m1) % P < P := Nat.mod_lt _ (by omega)
      refine lv_aload_n hx hb dX1_transform_80 rfl (lv_at hl 0 rfl) ?_
      refine lv_lload_n hx hb dX1_transform_81 rfl (lv_at hl 3 rfl) ?_
      refine lv_iload_n hx hb dX1_transform_82 rfl (lv_at hl 2 rfl) ?_
      refine lv_iconst (v := nI 2) hx hb dX1_transform_83 (by decide) ?_
      refine lv_iload hx hb dX1_transform_84 (lv_at hl 4 rfl) ?_
      refine k_imul hx hb dX1_transform_86  ?_
      refine k_idiv hx hb dX1_transform_87 (by omega) (by omega) (by omega) ?_
      refine k_ti (nI (2 ^ m1)) (by rw [hdv]) ?_
      refine k_i2l hx hb dX1_transform_88 (by omega) ?_
      refine k_cVl (own := RX1) (wr := [(hv, .inl (cJ, 512, .inr (.inl F')))]) (wo := fun u => [(h0, .inr (1, [.long (lN P), .ref ra, .ref rb])), (hv, .inl (cJ, 512, .inr (.inl F')))]) C rfl (m_power l D h0 ra rb P hP1 hP2 r (2 ^ m1) hr0 (by omega)) (cwV 2 hts (lw_V q108 q109 q110 q9 q111) rfl rfl rfl (by decide +kernel) ⟨Nat.le_of_ble_eq_true rfl, Nat.le_of_ble_eq_true rfl⟩) hK hP hD hS hA 0 1 rfl rfl rfl [] rfl [0] [1] rfl (by decide) rfl (by decide) (by decide) [1, 0] (fun _ => rfl) (by decide) rfl hl.1 rfl (Nat.le_of_ble_eq_true rfl) dX1_transform_89 ⟨Nat.zero_le _, Nat.zero_le _⟩ (fun st0 u H locs hw hP hD hS => ?_)
      have hP : va_P D vwCl [(h0, .inr (1, [.long (lN P), .ref ra, .ref rb])), (hv, .inl (cJ, 512, .inr (.inl F')))] H := hP
      have hD : va_D A [(h0, .inr (1, [.long (lN P), .ref ra, .ref rb])), (hv, .inl (cJ, 512, .inr (.inl F')))] := hD
      refine k_tl (lN (r ^ (2 ^ m1) % P)) hw ?_
      refine lv_lstore (lv' := [(7, .long (lN (r ^ (2 ^ m1) % P))), (0, .ref h0), (1, .ref hv), (2, .int (nI (2 ^ b))), (3, .long (lN r)), (6, .int (nI (2 ^ s0)))]) hx hb dX1_transform_92 hl (by decide) rfl (fun ls hl => ?_)
      refine lv_iconst (v := nI 0) hx hb dX1_transform_94 (by decide) ?_
      refine lv_istore (lv' := [(9, .int (nI 0)), (7, .long (lN (r ^ (2 ^ m1) % P))), (0, .ref h0), (1, .ref hv), (2, .int (nI (2 ^ b))), (3, .long (lN r)), (6, .int (nI (2 ^ s0)))]) hx hb dX1_transform_95 hl (by decide) rfl (fun ls hl => ?_)
      refine lp_blocks (r := r) C hP1 hP2 hst hs0 hM hb2 (fun j hj => (hV j hj).2) hK (fun F' H locs ls hI2 hP hD hS hl => ?_) (2 ^ m1 + 1) 0 F' H locs ls (by omega) (Nat.zero_le _) ⟨fun j hj => absurd hj (by omega), fun j _ hj => (hV j hj).1⟩ hP hD hS ?_
      · refine lv_iload hx hb dX1_transform_209 (lv_at hl 4 rfl) ?_
        refine lv_iconst (v := nI 2) hx hb dX1_transform_211 (by decide) ?_
        refine k_imul hx hb dX1_transform_212  ?_
        refine k_ti (nI (2 ^ (s0 + 1))) (by rw [Nat.pow_succ]) ?_
        refine lv_istore (lv' := [(6, .int (nI (2 ^ (s0 + 1)))), (0, .ref h0), (1, .ref hv), (2, .int (nI (2 ^ b))), (3, .long (lN r))]) hx hb dX1_transform_213 hl (by decide) rfl (fun ls hl => ?_)
        refine lv_goto (tgt := 74) hx hb dX1_transform_215 (by decide) ?_
        exact ih (s0 + 1) m1 (nt_bf P (2 ^ s0) (r ^ (2 ^ m1) % P) V) F' H locs ls (by omega) (by omega) (fun j hj => ⟨hI2.1 j hj, nt_bf_lt (by omega) _ _ _ _⟩) (nt_st_step (by omega) (nt_cast_pow P r (2 ^ m1)) (nt_half hrr (by omega)) hI) hP hD hS (lv_sub hl [1, 2, 3, 4, 0] rfl)
      · rw [Nat.zero_mul]
        exact (lv_sub hl [2, 3, 4, 5, 6, 1, 0] rfl)
set_option maxHeartbeats 4000000 in
set_option maxRecDepth 100000 in
/-- transform(v, n, r): the values at the powers of r -/
theorem m_transform (l : Launch) (D : va_G) (h0 ra rb P : Nat) (hP1 : 1 < P) (hP2 : P < 2 ^ 30) (hv r b : Nat) (cJ : ClassId) (G : Nat → Nat) (F : Nat → Int64) (hr0 : r < P) (hb9 : b ≤ 9) (hrr : ∀ m, m + 1 = b → nt_c P ((r : Int) ^ (2 ^ m)) (-1)) (hG : ∀ j, j < 2 ^ b → F j = lN (G j) ∧ G j < P) : k_Mv l yX1_transform cX1_transform 17 rk1 D [.ref h0, .ref hv, .int (nI (2 ^ b)), .long (lN r)] [(h0, .inr (1, [.long (lN P), .ref ra, .ref rb])), (hv, .inl (cJ, 512, .inr (.inl F)))] [(cJ, .long)] (fun F' : Nat → Int64 => ∃ V : Nat → Nat, ∀ k, k < 2 ^ b → (F' k = lN (V k) ∧ V k < P) ∧ nt_c P (V k) (nt_ev (2 ^ b) (fun i => (G i : Int)) ((r : Int) ^ k))) (fun F' => [(h0, .inr (1, [.long (lN P), .ref ra, .ref rb])), (hv, .inl (cJ, 512, .inr (.inl F')))]) (fun _ => [(cJ, .long)]) 0 0 := by
  intro sz
  refine k_met (Qc := fun A => va_Qv (fun F' : Nat → Int64 => ∃ V : Nat → Nat, ∀ k, k < 2 ^ b → (F' k = lN (V k) ∧ V k < P) ∧ nt_c P (V k) (nt_ev (2 ^ b) (fun i => (G i : Int)) ((r : Int) ^ k))) (fun F' t => k_B D A [(h0, .inr (1, [.long (lN P), .ref ra, .ref rb])), (hv, .inl (cJ, 512, .inr (.inl F')))] [(cJ, .long)] t) A) (by decide) (Nat.le_of_ble_eq_true rfl) ?_
  intro p e s m below meth c A ls C hP hK hD hA hS hl
  obtain ⟨hx, hb, hml, hr, hlocks, hown, hin, hts⟩ := id C
  have hown : s.vm.findClass RX1 = some m.cls := hown
  have hl : lv_has ls 17 [(0, .ref h0), (1, .ref hv), (2, .int (nI (2 ^ b))), (3, .long (lN r))] := hl
  have hp2 : 0 < 2 ^ b := Nat.two_pow_pos b
  refine lv_iconst (v := nI 0) hx hb dX1_transform_0 (by decide) ?_
  refine lv_istore (lv' := [(5, .int (nI 0)), (0, .ref h0), (1, .ref hv), (2, .int (nI (2 ^ b))), (3, .long (lN r))]) hx hb dX1_transform_1 hl (by decide) rfl (fun ls hl => ?_)
  refine lp_bits (D := D) C hb9 (fun ls hl => ?_) (b + 1) 0 ls (by omega) (Nat.zero_le _) (lv_sub hl [1, 2, 3, 4, 0] rfl)
  refine lv_iconst (v := nI 0) hx hb dX1_transform_17 (by decide) ?_
  refine lv_istore (lv' := [(6, .int (nI 0)), (0, .ref h0), (1, .ref hv), (2, .int (nI (2 ^ b))), (3, .long (lN r)), (5, .int (nI b))]) hx hb dX1_transform_18 hl (by decide) rfl (fun ls hl => ?_)
  refine lp_swap (F := F) C hb9 hA hK (fun H locs ls hP hD hS hl => ?_) (2 ^ b + 1) 0 s.heap [] ls (by omega) (Nat.zero_le _) (by rw [nt_sw_0]; exact hP) (by rw [nt_sw_0]; exact hD) hS (lv_sub hl [1, 2, 3, 4, 5, 0] rfl)
  refine lv_iconst (v := nI 1) hx hb dX1_transform_71 (by decide) ?_
  refine lv_istore (lv' := [(6, .int (nI 1)), (0, .ref h0), (1, .ref hv), (2, .int (nI (2 ^ b))), (3, .long (lN r))]) hx hb dX1_transform_72 hl (by decide) rfl (fun ls hl => ?_)
  refine lp_stage (G := G) C hP1 hP2 hr0 hb9 hrr hA hK (fun V F' H locs ls hV hI hP hD hS => ?_) (b + 1) 0 b (fun j => G (nt_rev b j)) _ H locs ls (by omega) (by omega) (fun j hj => ?_) (nt_st_0 (fun j hj => rfl)) hP hD hS (lv_sub hl [1, 2, 3, 4, 0] rfl)
  · exact W.vret hx hb hr (fun t ht hW => ⟨⟨F', rfl, ⟨V, fun k hk => ⟨hV k hk, nt_st_end hI hk⟩⟩, by rw [ht]; exact hP, va_K.moved hW.alike hK, hD⟩, hS.F ht⟩) hS.2.2 dX1_transform_218
  · rw [nt_sw_end F hj]; exact hG _ (nt_rev_lt b j)
end
section
/-! Ring.product -/
abbrev rk2 : Room := { frames := 2, cells := 0, slots := 0, locals := 66 }
/-- a row written up to i -/
def nt_up (i : Nat) (g F F' : Nat → Int64) : Prop := (∀ j, j < i → F' j = g j) ∧ ∀ j, i ≤ j → F' j = F j
theorem nt_up_0 (g F : Nat → Int64) : nt_up 0 g F F := ⟨fun _ h => absurd h (Nat.not_lt_zero _), fun _ _ => rfl⟩
theorem nt_up_step {i : Nat} {g F F' : Nat → Int64} (h : nt_up i g F F') {x : Int64} (hx : x = g i) : nt_up (i + 1) g F (vp_updL F' i x) := by
  refine ⟨fun j hj => ?_, fun j hj => ?_⟩
  · rcases Nat.lt_or_ge j i with q | q
    · rw [pk_uLn (by omega)]; exact h.1 j q
    · have e : j = i := by omega
      subst e; rw [pk_uLs]; exact hx
  · rw [pk_uLn (by omega)]; exact h.2 j (by omega)
theorem nt_c_tn {p : Nat} (hp : 0 < p) (x : Int) : nt_c p ((x % (p : Int)).toNat : Int) x ∧ (x % (p : Int)).toNat < p := by
  have h1 := Int.emod_nonneg x (show (p : Int) ≠ 0 by omega)
  have h2 := Int.emod_lt_of_pos x (show (0 : Int) < p by omega)
  refine ⟨?_, by omega⟩
  rw [Int.toNat_of_nonneg h1]
  exact nt_c_mod p x
set_option maxHeartbeats 4000000 in
set_option maxRecDepth 100000 in
theorem lp_take {p : Program} {l : Launch} {e : Env} {s : State} {m : MethodId} {args : Array Value} {below : List Frame} {meth : Method} {c : Code} {Q : State → Prop} {D : va_G} {A : Nat → Prop} {h0 ra rb xa ya P b : Nat} {cJ : ClassId} {Xf Yf : Nat → Int64} {tw : Bool} {X Y : Nat → Int} {Af Bf : Nat → Int64} (C : k_C p s m args meth c yX1_product cX1_product 10 none) (hP1 : 1 < P) (hP2 : P < 2 ^ 30) (hb9 : b ≤ 9) (hA : ∀ q : Nat, s.heap.size ≤ q → A q) (hK : va_K D vwCl [(cJ, .long)] s) (hX : ∀ j, j < 2 ^ b → Xf j = lI (X j) ∧ -(2 ^ 62) ≤ X j ∧ X j ≤ 2 ^ 62) (hY : ∀ j, j < 2 ^ b → Yf j = lI (Y j) ∧ -(2 ^ 62) ≤ Y j ∧ Y j ≤ 2 ^ 62)
    (kk : ∀ (A' B' : Nat → Int64) (H : Heap) (locs : List Loc) (ls : Array Slot), nt_up (2 ^ b) (fun j => lN (X j % (P : Int)).toNat) Af A' → nt_up (2 ^ b) (fun j => lN (Y j % (P : Int)).toNat) Bf B' → va_P D vwCl [(h0, .inr (1, [.long (lN P), .ref ra, .ref rb])), (xa, .inl (cJ, 512, .inr (.inl Xf))), (ya, .inl (cJ, 512, .inr (.inl Yf))), (ra, .inl (cJ, 512, .inr (.inl A'))), (rb, .inl (cJ, 512, .inr (.inl B')))] H → va_D A [(h0, .inr (1, [.long (lN P), .ref ra, .ref rb])), (xa, .inl (cJ, 512, .inr (.inl Xf))), (ya, .inl (cJ, 512, .inr (.inl Yf))), (ra, .inl (cJ, 512, .inr (.inl A'))), (rb, .inl (cJ, 512, .inr (.inl B')))] → va_S A s.heap H locs → lv_has ls 10 [(0, .ref h0), (3, .int (nI (2 ^ b))), (4, .int (nI tw.toNat))] → W p l e rk2 s m args below meth c H locs 0 0 Q (F0 m 45 ls [])) :
    ∀ (N i : Nat) (A' B' : Nat → Int64) (H : Heap) (locs : List Loc) (ls : Array Slot), 2 ^ b < i + N → i ≤ 2 ^ b → nt_up i (fun j => lN (X j % (P : Int)).toNat) Af A' → nt_up i (fun j => lN (Y j % (P : Int)).toNat) Bf B' → va_P D vwCl [(h0, .inr (1, [.long (lN P), .ref ra, .ref rb])), (xa, .inl (cJ, 512, .inr (.inl Xf))), (ya, .inl (cJ, 512, .inr (.inl Yf))), (ra, .inl (cJ, 512, .inr (.inl A'))), (rb, .inl (cJ, 512, .inr (.inl B')))] H → va_D A [(h0, .inr (1, [.long (lN P), .ref ra, .ref rb])), (xa, .inl (cJ, 512, .inr (.inl Xf))), (ya, .inl (cJ, 512, .inr (.inl Yf))), (ra, .inl (cJ, 512, .inr (.inl A'))), (rb, .inl (cJ, 512, .inr (.inl B')))] → va_S A s.heap H locs → lv_has ls 10 [(0, .ref h0), (1, .ref xa), (2, .ref ya), (3, .int (nI (2 ^ b))), (4, .int (nI tw.toNat)), (5, .int (nI i))] → W p l e rk2 s m args below meth c H locs 0 0 Q (F0 m 3 ls []) := by
  obtain ⟨hx, hb, hml, hr, hlocks, hown, hin, hts⟩ := id C
  have hown : s.vm.findClass RX1 = some m.cls := hown
  have hb2 := nt_2b hb9
  intro N
  induction N with
  | zero => intro i A' B' H locs ls h1 h2; exact absurd h1 (by omega)
  | succ N ih =>
    intro i A' B' H locs ls h1 h2 hU hV hP hD hS hl
    refine lv_iload hx hb dX1_product_3 (lv_at hl 5 rfl) ?_
    refine lv_iload_n hx hb dX1_product_5 rfl (lv_at hl 3 rfl) ?_
    refine k_icmp_ge (tgt := 45) hx hb dX1_product_6 (by decide) (by omega) (by omega) (fun c1 => ?_) (fun c1 => ?_)
    · have e0 : i = 2 ^ b := by omega
      rw [e0] at hU hV
      exact kk A' B' H locs ls hU hV hP hD hS (lv_sub hl [0, 3, 4] rfl)
    · obtain ⟨x1, x2, x3⟩ := hX i c1
      obtain ⟨y1, y2, y3⟩ := hY i c1
      refine lv_aload_n hx hb dX1_product_9 rfl (lv_at hl 0 rfl) ?_
      refine va_get (D := D) (ci := 1) (v := .ref ra) (C := RX1) (T := TX1) (N := 3) hx hb hts in_X1 hown hK hP 0 rfl rfl 1 (by decide) (hts _ q28) (fun _ h9 => h9) rfl dX1_product_10 ?_
      refine lv_iload hx hb dX1_product_13 (lv_at hl 5 rfl) ?_
      refine lv_aload_n hx hb dX1_product_15 rfl (lv_at hl 0 rfl) ?_
      refine lv_aload_n hx hb dX1_product_16 rfl (lv_at hl 1 rfl) ?_
      refine lv_iload hx hb dX1_product_17 (lv_at hl 5 rfl) ?_
      refine k_lald hx hb hK hP 1 0 rfl rfl (by omega) (by decide) dX1_product_19 ?_
      refine k_tl (lI (X i)) x1 ?_
      refine k_cVl (own := RX1) (wr := [(xa, .inl (cJ, 512, .inr (.inl Xf))), (ya, .inl (cJ, 512, .inr (.inl Yf))), (ra, .inl (cJ, 512, .inr (.inl A'))), (rb, .inl (cJ, 512, .inr (.inl B')))]) (wo := fun u => [(h0, .inr (1, [.long (lN P), .ref ra, .ref rb])), (xa, .inl (cJ, 512, .inr (.inl Xf))), (ya, .inl (cJ, 512, .inr (.inl Yf))), (ra, .inl (cJ, 512, .inr (.inl A'))), (rb, .inl (cJ, 512, .inr (.inl B')))]) C rfl (m_of l D h0 ra rb P hP1 hP2 (X i) x2 x3) (cwV 1 hts (lw_V q99 q101 qs2 q9 q102) rfl rfl rfl (by decide +kernel) ⟨Nat.le_of_ble_eq_true rfl, Nat.le_of_ble_eq_true rfl⟩) hK hP hD hS hA 0 1 rfl rfl rfl [] rfl [0] [1, 2, 3, 4] rfl (by decide) rfl (by decide) (by decide) [4, 0, 1, 2, 3] (fun _ => rfl) (by decide) rfl hl.1 rfl (Nat.le_of_ble_eq_true rfl) dX1_product_20 ⟨Nat.zero_le _, Nat.zero_le _⟩ (fun v1 u H locs e1 hP hD hS => ?_)
      have hP : va_P D vwCl [(h0, .inr (1, [.long (lN P), .ref ra, .ref rb])), (xa, .inl (cJ, 512, .inr (.inl Xf))), (ya, .inl (cJ, 512, .inr (.inl Yf))), (ra, .inl (cJ, 512, .inr (.inl A'))), (rb, .inl (cJ, 512, .inr (.inl B')))] H := hP
      have hD : va_D A [(h0, .inr (1, [.long (lN P), .ref ra, .ref rb])), (xa, .inl (cJ, 512, .inr (.inl Xf))), (ya, .inl (cJ, 512, .inr (.inl Yf))), (ra, .inl (cJ, 512, .inr (.inl A'))), (rb, .inl (cJ, 512, .inr (.inl B')))] := hD
      refine k_last hx hb hK hP hD hS 3 0 rfl rfl (by omega) (by decide) dX1_product_23 (fun H locs hP hD hS => ?_)
      have hP : va_P D vwCl [(h0, .inr (1, [.long (lN P), .ref ra, .ref rb])), (xa, .inl (cJ, 512, .inr (.inl Xf))), (ya, .inl (cJ, 512, .inr (.inl Yf))), (ra, .inl (cJ, 512, .inr (.inl (vp_updL A' i v1)))), (rb, .inl (cJ, 512, .inr (.inl B')))] H := hP
      have hD : va_D A [(h0, .inr (1, [.long (lN P), .ref ra, .ref rb])), (xa, .inl (cJ, 512, .inr (.inl Xf))), (ya, .inl (cJ, 512, .inr (.inl Yf))), (ra, .inl (cJ, 512, .inr (.inl (vp_updL A' i v1)))), (rb, .inl (cJ, 512, .inr (.inl B')))] := hD
      refine lv_aload_n hx hb dX1_product_24 rfl (lv_at hl 0 rfl) ?_
      refine va_get (D := D) (ci := 1) (v := .ref rb) (C := RX1) (T := TX1) (N := 3) hx hb hts in_X1 hown hK hP 0 rfl rfl 2 (by decide) (hts _ q29) (fun _ h9 => h9) rfl dX1_product_25 ?_
      refine lv_iload hx hb dX1_product_28 (lv_at hl 5 rfl) ?_
      refine lv_aload_n hx hb dX1_product_30 rfl (lv_at hl 0 rfl) ?_
      refine lv_aload_n hx hb dX1_product_31 rfl (lv_at hl 2 rfl) ?_
      refine lv_iload hx hb dX1_product_32 (lv_at hl 5 rfl) ?_
      refine k_lald hx hb hK hP 2 0 rfl rfl (by omega) (by decide) dX1_product_34 ?_
      refine k_tl (lI (Y i)) y1 ?_
      refine k_cVl (own := RX1) (wr := [(xa, .inl (cJ, 512, .inr (.inl Xf))), (ya, .inl (cJ, 512, .inr (.inl Yf))), (ra, .inl (cJ, 512, .inr (.inl (vp_updL A' i v1)))), (rb, .inl (cJ, 512, .inr (.inl B')))]) (wo := fun u => [(h0, .inr (1, [.long (lN P), .ref ra, .ref rb])), (xa, .inl (cJ, 512, .inr (.inl Xf))), (ya, .inl (cJ, 512, .inr (.inl Yf))), (ra, .inl (cJ, 512, .inr (.inl (vp_updL A' i v1)))), (rb, .inl (cJ, 512, .inr (.inl B')))]) C rfl (m_of l D h0 ra rb P hP1 hP2 (Y i) y2 y3) (cwV 1 hts (lw_V q99 q101 qs2 q9 q102) rfl rfl rfl (by decide +kernel) ⟨Nat.le_of_ble_eq_true rfl, Nat.le_of_ble_eq_true rfl⟩) hK hP hD hS hA 0 1 rfl rfl rfl [] rfl [0] [1, 2, 3, 4] rfl (by decide) rfl (by decide) (by decide) [4, 0, 1, 2, 3] (fun _ => rfl) (by decide) rfl hl.1 rfl (Nat.le_of_ble_eq_true rfl) dX1_product_35 ⟨Nat.zero_le _, Nat.zero_le _⟩ (fun v2 u H locs e2 hP hD hS => ?_)
      have hP : va_P D vwCl [(h0, .inr (1, [.long (lN P), .ref ra, .ref rb])), (xa, .inl (cJ, 512, .inr (.inl Xf))), (ya, .inl (cJ, 512, .inr (.inl Yf))), (ra, .inl (cJ, 512, .inr (.inl (vp_updL A' i v1)))), (rb, .inl (cJ, 512, .inr (.inl B')))] H := hP
      have hD : va_D A [(h0, .inr (1, [.long (lN P), .ref ra, .ref rb])), (xa, .inl (cJ, 512, .inr (.inl Xf))), (ya, .inl (cJ, 512, .inr (.inl Yf))), (ra, .inl (cJ, 512, .inr (.inl (vp_updL A' i v1)))), (rb, .inl (cJ, 512, .inr (.inl B')))] := hD
      refine k_last hx hb hK hP hD hS 4 0 rfl rfl (by omega) (by decide) dX1_product_38 (fun H locs hP hD hS => ?_)
      have hP : va_P D vwCl [(h0, .inr (1, [.long (lN P), .ref ra, .ref rb])), (xa, .inl (cJ, 512, .inr (.inl Xf))), (ya, .inl (cJ, 512, .inr (.inl Yf))), (ra, .inl (cJ, 512, .inr (.inl (vp_updL A' i v1)))), (rb, .inl (cJ, 512, .inr (.inl (vp_updL B' i v2))))] H := hP
      have hD : va_D A [(h0, .inr (1, [.long (lN P), .ref ra, .ref rb])), (xa, .inl (cJ, 512, .inr (.inl Xf))), (ya, .inl (cJ, 512, .inr (.inl Yf))), (ra, .inl (cJ, 512, .inr (.inl (vp_updL A' i v1)))), (rb, .inl (cJ, 512, .inr (.inl (vp_updL B' i v2))))] := hD
      refine lv_iinc (v := nI (i + 1)) (lv' := [(5, .int (nI (i + 1))), (0, .ref h0), (1, .ref xa), (2, .ref ya), (3, .int (nI (2 ^ b))), (4, .int (nI tw.toNat))]) hx hb dX1_product_39 hl (k := 5) rfl (k_inc i) (by decide) rfl (fun ls hl => ?_)
      refine lv_goto (tgt := 3) hx hb dX1_product_42 (by decide) ?_
      exact ih (i + 1) _ _ H locs ls (by omega) (by omega) (nt_up_step hU e1) (nt_up_step hV e2) hP hD hS (lv_sub hl [1, 2, 3, 4, 5, 0] rfl)
set_option maxHeartbeats 4000000 in
set_option maxRecDepth 100000 in
theorem lp_mul {p : Program} {l : Launch} {e : Env} {s : State} {m : MethodId} {args : Array Value} {below : List Frame} {meth : Method} {c : Code} {Q : State → Prop} {D : va_G} {A : Nat → Prop} {h0 ra rb xa ya P b : Nat} {cJ : ClassId} {Xf Yf : Nat → Int64} {tw : Bool} {tn : Nat} {a2 b2 : Nat → Nat} {Af Bf : Nat → Int64} (C : k_C p s m args meth c yX1_product cX1_product 10 none) (hP1 : 1 < P) (hP2 : P < 2 ^ 30) (hb9 : b ≤ 9) (hA : ∀ q : Nat, s.heap.size ≤ q → A q) (hK : va_K D vwCl [(cJ, .long)] s) (ha : ∀ j, j < 2 ^ b → Af j = lN (a2 j) ∧ a2 j < P) (hb0 : ∀ j, j < 2 ^ b → Bf j = lN (b2 j) ∧ b2 j < P)
    (kk : ∀ (A' : Nat → Int64) (H : Heap) (locs : List Loc) (ls : Array Slot), nt_up (2 ^ b) (fun j => lN (a2 j * b2 j % P)) Af A' → va_P D vwCl [(h0, .inr (1, [.long (lN P), .ref ra, .ref rb])), (xa, .inl (cJ, 512, .inr (.inl Xf))), (ya, .inl (cJ, 512, .inr (.inl Yf))), (ra, .inl (cJ, 512, .inr (.inl A'))), (rb, .inl (cJ, 512, .inr (.inl Bf)))] H → va_D A [(h0, .inr (1, [.long (lN P), .ref ra, .ref rb])), (xa, .inl (cJ, 512, .inr (.inl Xf))), (ya, .inl (cJ, 512, .inr (.inl Yf))), (ra, .inl (cJ, 512, .inr (.inl A'))), (rb, .inl (cJ, 512, .inr (.inl Bf)))] → va_S A s.heap H locs → lv_has ls 10 [(0, .ref h0), (3, .int (nI (2 ^ b))), (4, .int (nI tw.toNat)), (5, .long (lN tn))] → W p l e rk2 s m args below meth c H locs 0 0 Q (F0 m 151 ls [])) :
    ∀ (N i : Nat) (A' : Nat → Int64) (H : Heap) (locs : List Loc) (ls : Array Slot), 2 ^ b < i + N → i ≤ 2 ^ b → nt_up i (fun j => lN (a2 j * b2 j % P)) Af A' → va_P D vwCl [(h0, .inr (1, [.long (lN P), .ref ra, .ref rb])), (xa, .inl (cJ, 512, .inr (.inl Xf))), (ya, .inl (cJ, 512, .inr (.inl Yf))), (ra, .inl (cJ, 512, .inr (.inl A'))), (rb, .inl (cJ, 512, .inr (.inl Bf)))] H → va_D A [(h0, .inr (1, [.long (lN P), .ref ra, .ref rb])), (xa, .inl (cJ, 512, .inr (.inl Xf))), (ya, .inl (cJ, 512, .inr (.inl Yf))), (ra, .inl (cJ, 512, .inr (.inl A'))), (rb, .inl (cJ, 512, .inr (.inl Bf)))] → va_S A s.heap H locs → lv_has ls 10 [(0, .ref h0), (3, .int (nI (2 ^ b))), (4, .int (nI tw.toNat)), (5, .long (lN tn)), (7, .int (nI i))] → W p l e rk2 s m args below meth c H locs 0 0 Q (F0 m 112 ls []) := by
  obtain ⟨hx, hb, hml, hr, hlocks, hown, hin, hts⟩ := id C
  have hown : s.vm.findClass RX1 = some m.cls := hown
  have hb2 := nt_2b hb9
  intro N
  induction N with
  | zero => intro i A' H locs ls h1 h2; exact absurd h1 (by omega)
  | succ N ih =>
    intro i A' H locs ls h1 h2 hU hP hD hS hl
    refine lv_iload hx hb dX1_product_112 (lv_at hl 4 rfl) ?_
    refine lv_iload_n hx hb dX1_product_114 rfl (lv_at hl 1 rfl) ?_
    refine k_icmp_ge (tgt := 151) hx hb dX1_product_115 (by decide) (by omega) (by omega) (fun c1 => ?_) (fun c1 => ?_)
    · have e0 : i = 2 ^ b := by omega
      rw [e0] at hU
      exact kk A' H locs ls hU hP hD hS (lv_sub hl [0, 1, 2, 3] rfl)
    · obtain ⟨x1, x2⟩ := ha i c1
      obtain ⟨y1, y2⟩ := hb0 i c1
      refine lv_aload_n hx hb dX1_product_118 rfl (lv_at hl 0 rfl) ?_
      refine va_get (D := D) (ci := 1) (v := .ref ra) (C := RX1) (T := TX1) (N := 3) hx hb hts in_X1 hown hK hP 0 rfl rfl 1 (by decide) (hts _ q28) (fun _ h9 => h9) rfl dX1_product_119 ?_
      refine lv_iload hx hb dX1_product_122 (lv_at hl 4 rfl) ?_
      refine lv_aload_n hx hb dX1_product_124 rfl (lv_at hl 0 rfl) ?_
      refine va_get (D := D) (ci := 1) (v := .ref ra) (C := RX1) (T := TX1) (N := 3) hx hb hts in_X1 hown hK hP 0 rfl rfl 1 (by decide) (hts _ q28) (fun _ h9 => h9) rfl dX1_product_125 ?_
      refine lv_iload hx hb dX1_product_128 (lv_at hl 4 rfl) ?_
      refine k_lald hx hb hK hP 3 0 rfl rfl (by omega) (by decide) dX1_product_130 ?_
      refine k_tl (lN (a2 i)) ((hU.2 i (Nat.le_refl i)).trans x1) ?_
      refine lv_aload_n hx hb dX1_product_131 rfl (lv_at hl 0 rfl) ?_
      refine va_get (D := D) (ci := 1) (v := .ref rb) (C := RX1) (T := TX1) (N := 3) hx hb hts in_X1 hown hK hP 0 rfl rfl 2 (by decide) (hts _ q29) (fun _ h9 => h9) rfl dX1_product_132 ?_
      refine lv_iload hx hb dX1_product_135 (lv_at hl 4 rfl) ?_
      refine k_lald hx hb hK hP 4 0 rfl rfl (by omega) (by decide) dX1_product_137 ?_
      refine k_tl (lN (b2 i)) y1 ?_
      refine k_lmul hx hb dX1_product_138  ?_
      refine lv_aload_n hx hb dX1_product_139 rfl (lv_at hl 0 rfl) ?_
      refine va_get (D := D) (ci := 1) (v := .long (lN P)) (C := RX1) (T := TX1) (N := 3) hx hb hts in_X1 hown hK hP 0 rfl rfl 0 (by decide) (hts _ q26) (fun _ h9 => h9) rfl dX1_product_140 ?_
      refine k_lrem hx hb dX1_product_143 (k_mb x2 y2 hP2) (by omega) (by omega) ?_
      refine k_last hx hb hK hP hD hS 3 0 rfl rfl (by omega) (by decide) dX1_product_144 (fun H locs hP hD hS => ?_)
      have hP : va_P D vwCl [(h0, .inr (1, [.long (lN P), .ref ra, .ref rb])), (xa, .inl (cJ, 512, .inr (.inl Xf))), (ya, .inl (cJ, 512, .inr (.inl Yf))), (ra, .inl (cJ, 512, .inr (.inl (vp_updL A' i (lN (((a2 i) * (b2 i)) % P)))))), (rb, .inl (cJ, 512, .inr (.inl Bf)))] H := hP
      have hD : va_D A [(h0, .inr (1, [.long (lN P), .ref ra, .ref rb])), (xa, .inl (cJ, 512, .inr (.inl Xf))), (ya, .inl (cJ, 512, .inr (.inl Yf))), (ra, .inl (cJ, 512, .inr (.inl (vp_updL A' i (lN (((a2 i) * (b2 i)) % P)))))), (rb, .inl (cJ, 512, .inr (.inl Bf)))] := hD
      refine lv_iinc (v := nI (i + 1)) (lv' := [(7, .int (nI (i + 1))), (0, .ref h0), (3, .int (nI (2 ^ b))), (4, .int (nI tw.toNat)), (5, .long (lN tn))]) hx hb dX1_product_145 hl (k := 4) rfl (k_inc i) (by decide) rfl (fun ls hl => ?_)
      refine lv_goto (tgt := 112) hx hb dX1_product_148 (by decide) ?_
      exact ih (i + 1) _ H locs ls (by omega) (by omega) (nt_up_step hU rfl) hP hD hS (lv_sub hl [1, 2, 3, 4, 0] rfl)
set_option maxHeartbeats 4000000 in
set_option maxRecDepth 100000 in
theorem lp_part {p : Program} {l : Launch} {e : Env} {s : State} {m : MethodId} {args : Array Value} {below : List Frame} {meth : Method} {c : Code} {Q : State → Prop} {D : va_G} {A : Nat → Prop} {h0 ra rb xa ya P b : Nat} {cJ : ClassId} {Xf Yf : Nat → Int64} {pt : Nat} {a2 : Nat → Nat} {Af Bf : Nat → Int64} (C : k_C p s m args meth c yX1_product cX1_product 10 none) (hP1 : 1 < P) (hP2 : P < 2 ^ 30) (hb9 : b ≤ 9) (hA : ∀ q : Nat, s.heap.size ≤ q → A q) (hK : va_K D vwCl [(cJ, .long)] s) (hpt : pt < P) (ha : ∀ j, j < 2 ^ b → Af j = lN (a2 j) ∧ a2 j < P)
    (kk : ∀ (A' : Nat → Int64) (H : Heap) (locs : List Loc) (ls : Array Slot), nt_up (2 ^ b) (fun j => lN (a2 j * pt % P)) Af A' → va_P D vwCl [(h0, .inr (1, [.long (lN P), .ref ra, .ref rb])), (xa, .inl (cJ, 512, .inr (.inl Xf))), (ya, .inl (cJ, 512, .inr (.inl Yf))), (ra, .inl (cJ, 512, .inr (.inl A'))), (rb, .inl (cJ, 512, .inr (.inl Bf)))] H → va_D A [(h0, .inr (1, [.long (lN P), .ref ra, .ref rb])), (xa, .inl (cJ, 512, .inr (.inl Xf))), (ya, .inl (cJ, 512, .inr (.inl Yf))), (ra, .inl (cJ, 512, .inr (.inl A'))), (rb, .inl (cJ, 512, .inr (.inl Bf)))] → va_S A s.heap H locs → W p l e rk2 s m args below meth c H locs 0 0 Q (F0 m 238 ls [])) :
    ∀ (N i : Nat) (A' : Nat → Int64) (H : Heap) (locs : List Loc) (ls : Array Slot), 2 ^ b < i + N → i ≤ 2 ^ b → nt_up i (fun j => lN (a2 j * pt % P)) Af A' → va_P D vwCl [(h0, .inr (1, [.long (lN P), .ref ra, .ref rb])), (xa, .inl (cJ, 512, .inr (.inl Xf))), (ya, .inl (cJ, 512, .inr (.inl Yf))), (ra, .inl (cJ, 512, .inr (.inl A'))), (rb, .inl (cJ, 512, .inr (.inl Bf)))] H → va_D A [(h0, .inr (1, [.long (lN P), .ref ra, .ref rb])), (xa, .inl (cJ, 512, .inr (.inl Xf))), (ya, .inl (cJ, 512, .inr (.inl Yf))), (ra, .inl (cJ, 512, .inr (.inl A'))), (rb, .inl (cJ, 512, .inr (.inl Bf)))] → va_S A s.heap H locs → lv_has ls 10 [(0, .ref h0), (3, .int (nI (2 ^ b))), (7, .long (lN pt)), (9, .int (nI i))] → W p l e rk2 s m args below meth c H locs 0 0 Q (F0 m 204 ls []) := by
  obtain ⟨hx, hb, hml, hr, hlocks, hown, hin, hts⟩ := id C
  have hown : s.vm.findClass RX1 = some m.cls := hown
  have hb2 := nt_2b hb9
  intro N
  induction N with
  | zero => intro i A' H locs ls h1 h2; exact absurd h1 (by omega)
  | succ N ih =>
    intro i A' H locs ls h1 h2 hU hP hD hS hl
    refine lv_iload hx hb dX1_product_204 (lv_at hl 3 rfl) ?_
    refine lv_iload_n hx hb dX1_product_206 rfl (lv_at hl 1 rfl) ?_
    refine k_icmp_ge (tgt := 238) hx hb dX1_product_207 (by decide) (by omega) (by omega) (fun c1 => ?_) (fun c1 => ?_)
    · have e0 : i = 2 ^ b := by omega
      rw [e0] at hU
      exact kk A' H locs ls hU hP hD hS
    · obtain ⟨x1, x2⟩ := ha i c1
      refine lv_aload_n hx hb dX1_product_210 rfl (lv_at hl 0 rfl) ?_
      refine va_get (D := D) (ci := 1) (v := .ref ra) (C := RX1) (T := TX1) (N := 3) hx hb hts in_X1 hown hK hP 0 rfl rfl 1 (by decide) (hts _ q28) (fun _ h9 => h9) rfl dX1_product_211 ?_
      refine lv_iload hx hb dX1_product_214 (lv_at hl 3 rfl) ?_
      refine lv_aload_n hx hb dX1_product_216 rfl (lv_at hl 0 rfl) ?_
      refine va_get (D := D) (ci := 1) (v := .ref ra) (C := RX1) (T := TX1) (N := 3) hx hb hts in_X1 hown hK hP 0 rfl rfl 1 (by decide) (hts _ q28) (fun _ h9 => h9) rfl dX1_product_217 ?_
      refine lv_iload hx hb dX1_product_220 (lv_at hl 3 rfl) ?_
      refine k_lald hx hb hK hP 3 0 rfl rfl (by omega) (by decide) dX1_product_222 ?_
      refine k_tl (lN (a2 i)) ((hU.2 i (Nat.le_refl i)).trans x1) ?_
      refine lv_lload hx hb dX1_product_223 (lv_at hl 2 rfl) ?_
      refine k_lmul hx hb dX1_product_225  ?_
      refine lv_aload_n hx hb dX1_product_226 rfl (lv_at hl 0 rfl) ?_
      refine va_get (D := D) (ci := 1) (v := .long (lN P)) (C := RX1) (T := TX1) (N := 3) hx hb hts in_X1 hown hK hP 0 rfl rfl 0 (by decide) (hts _ q26) (fun _ h9 => h9) rfl dX1_product_227 ?_
      refine k_lrem hx hb dX1_product_230 (k_mb x2 hpt hP2) (by omega) (by omega) ?_
      refine k_last hx hb hK hP hD hS 3 0 rfl rfl (by omega) (by decide) dX1_product_231 (fun H locs hP hD hS => ?_)
      have hP : va_P D vwCl [(h0, .inr (1, [.long (lN P), .ref ra, .ref rb])), (xa, .inl (cJ, 512, .inr (.inl Xf))), (ya, .inl (cJ, 512, .inr (.inl Yf))), (ra, .inl (cJ, 512, .inr (.inl (vp_updL A' i (lN (((a2 i) * pt) % P)))))), (rb, .inl (cJ, 512, .inr (.inl Bf)))] H := hP
      have hD : va_D A [(h0, .inr (1, [.long (lN P), .ref ra, .ref rb])), (xa, .inl (cJ, 512, .inr (.inl Xf))), (ya, .inl (cJ, 512, .inr (.inl Yf))), (ra, .inl (cJ, 512, .inr (.inl (vp_updL A' i (lN (((a2 i) * pt) % P)))))), (rb, .inl (cJ, 512, .inr (.inl Bf)))] := hD
      refine lv_iinc (v := nI (i + 1)) (lv' := [(9, .int (nI (i + 1))), (0, .ref h0), (3, .int (nI (2 ^ b))), (7, .long (lN pt))]) hx hb dX1_product_232 hl (k := 3) rfl (k_inc i) (by decide) rfl (fun ls hl => ?_)
      refine lv_goto (tgt := 204) hx hb dX1_product_235 (by decide) ?_
      exact ih (i + 1) _ H locs ls (by omega) (by omega) (nt_up_step hU rfl) hP hD hS (lv_sub hl [1, 2, 3, 0] rfl)
set_option maxHeartbeats 4000000 in
set_option maxRecDepth 100000 in
theorem rp_end {p : Program} {l : Launch} {e : Env} {s : State} {m : MethodId} {args : Array Value} {below : List Frame} {meth : Method} {c : Code} {Q : State → Prop} {D : va_G} {A : Nat → Prop} {h0 ra rb xa ya P b : Nat} {cJ : ClassId} {Xf Yf : Nat → Int64} {tw : Bool} {tn ui : Nat} {a4 : Nat → Nat} {Af Bf : Nat → Int64} (C : k_C p s m args meth c yX1_product cX1_product 10 none) (hP1 : 1 < P) (hP2 : P < 2 ^ 30) (hb9 : b ≤ 9) (hA : ∀ q : Nat, s.heap.size ≤ q → A q) (hK : va_K D vwCl [(cJ, .long)] s) (hui : ui < P) (hnP : 2 ^ b < P) (ha : ∀ j, j < 2 ^ b → Af j = lN (a4 j) ∧ a4 j < P)
    (kk : ∀ (A' : Nat → Int64) (H : Heap) (locs : List Loc) (ls : Array Slot), (∀ j, j < 2 ^ b → A' j = lN (a4 j * (ui ^ j % P) % P * nt_iv P (2 ^ b) % P)) → va_P D vwCl [(h0, .inr (1, [.long (lN P), .ref ra, .ref rb])), (xa, .inl (cJ, 512, .inr (.inl Xf))), (ya, .inl (cJ, 512, .inr (.inl Yf))), (ra, .inl (cJ, 512, .inr (.inl A'))), (rb, .inl (cJ, 512, .inr (.inl Bf)))] H → va_D A [(h0, .inr (1, [.long (lN P), .ref ra, .ref rb])), (xa, .inl (cJ, 512, .inr (.inl Xf))), (ya, .inl (cJ, 512, .inr (.inl Yf))), (ra, .inl (cJ, 512, .inr (.inl A'))), (rb, .inl (cJ, 512, .inr (.inl Bf)))] → va_S A s.heap H locs → W p l e rk2 s m args below meth c H locs 0 0 Q (F0 m 238 ls []))
    {H : Heap} {locs : List Loc} {ls : Array Slot} (hP : va_P D vwCl [(h0, .inr (1, [.long (lN P), .ref ra, .ref rb])), (xa, .inl (cJ, 512, .inr (.inl Xf))), (ya, .inl (cJ, 512, .inr (.inl Yf))), (ra, .inl (cJ, 512, .inr (.inl Af))), (rb, .inl (cJ, 512, .inr (.inl Bf)))] H) (hD : va_D A [(h0, .inr (1, [.long (lN P), .ref ra, .ref rb])), (xa, .inl (cJ, 512, .inr (.inl Xf))), (ya, .inl (cJ, 512, .inr (.inl Yf))), (ra, .inl (cJ, 512, .inr (.inl Af))), (rb, .inl (cJ, 512, .inr (.inl Bf)))]) (hS : va_S A s.heap H locs) (hl : lv_has ls 10 [(0, .ref h0), (3, .int (nI (2 ^ b))), (4, .int (nI tw.toNat)), (5, .long (lN tn))]) : W p l e rk2 s m args below meth c H locs 0 0 Q (F0 m 190 ls [.long (lN ui), .int (nI (2 ^ b)), .ref ra, .ref h0]) := by
  obtain ⟨hx, hb, hml, hr, hlocks, hown, hin, hts⟩ := id C
  have hown : s.vm.findClass RX1 = some m.cls := hown
  have hb2 := nt_2b hb9
  refine k_cVv (own := RX1) (wr := [(xa, .inl (cJ, 512, .inr (.inl Xf))), (ya, .inl (cJ, 512, .inr (.inl Yf))), (rb, .inl (cJ, 512, .inr (.inl Bf)))]) (wo := fun A5 => [(h0, .inr (1, [.long (lN P), .ref ra, .ref rb])), (xa, .inl (cJ, 512, .inr (.inl Xf))), (ya, .inl (cJ, 512, .inr (.inl Yf))), (ra, .inl (cJ, 512, .inr (.inl A5))), (rb, .inl (cJ, 512, .inr (.inl Bf)))]) C rfl (m_weigh l D h0 ra rb P hP1 hP2 ra (2 ^ b) ui cJ a4 Af hb2 hui ha) (cwV 3 hts (lw_V q112 q114 qs3 q9 q115) rfl rfl rfl (by decide +kernel) ⟨Nat.le_of_ble_eq_true rfl, Nat.le_of_ble_eq_true rfl⟩) hK hP hD hS hA 0 1 rfl rfl rfl [0] rfl [0, 3] [1, 2, 4] rfl (by decide) rfl (by decide) (by decide) [3, 0, 1, 4, 2] (fun _ => rfl) (by decide) rfl hl.1 rfl (Nat.le_of_ble_eq_true rfl) dX1_product_190 ⟨Nat.zero_le _, Nat.zero_le _⟩ (fun A5 H locs hW5 hP hD hKn hS => ?_)
  have hP : va_P D vwCl [(h0, .inr (1, [.long (lN P), .ref ra, .ref rb])), (xa, .inl (cJ, 512, .inr (.inl Xf))), (ya, .inl (cJ, 512, .inr (.inl Yf))), (ra, .inl (cJ, 512, .inr (.inl A5))), (rb, .inl (cJ, 512, .inr (.inl Bf)))] H := hP
  have hD : va_D A [(h0, .inr (1, [.long (lN P), .ref ra, .ref rb])), (xa, .inl (cJ, 512, .inr (.inl Xf))), (ya, .inl (cJ, 512, .inr (.inl Yf))), (ra, .inl (cJ, 512, .inr (.inl A5))), (rb, .inl (cJ, 512, .inr (.inl Bf)))] := hD
  refine lv_aload_n hx hb dX1_product_193 rfl (lv_at hl 0 rfl) ?_
  refine lv_iload_n hx hb dX1_product_194 rfl (lv_at hl 1 rfl) ?_
  refine k_i2l hx hb dX1_product_195 (by omega) ?_
  refine k_cVl (own := RX1) (wr := [(xa, .inl (cJ, 512, .inr (.inl Xf))), (ya, .inl (cJ, 512, .inr (.inl Yf))), (ra, .inl (cJ, 512, .inr (.inl A5))), (rb, .inl (cJ, 512, .inr (.inl Bf)))]) (wo := fun u => [(h0, .inr (1, [.long (lN P), .ref ra, .ref rb])), (xa, .inl (cJ, 512, .inr (.inl Xf))), (ya, .inl (cJ, 512, .inr (.inl Yf))), (ra, .inl (cJ, 512, .inr (.inl A5))), (rb, .inl (cJ, 512, .inr (.inl Bf)))]) C rfl (m_inverse l D h0 ra rb P hP1 hP2 (2 ^ b) hnP) (cwV 1 hts (lw_V q123 q124 q125 q9 q126) rfl rfl rfl (by decide +kernel) ⟨Nat.le_of_ble_eq_true rfl, Nat.le_of_ble_eq_true rfl⟩) hK hP hD hS hA 0 1 rfl rfl rfl [] rfl [0] [1, 2, 3, 4] rfl (by decide) rfl (by decide) (by decide) [4, 0, 1, 2, 3] (fun _ => rfl) (by decide) rfl hl.1 rfl (Nat.le_of_ble_eq_true rfl) dX1_product_196 ⟨Nat.zero_le _, Nat.zero_le _⟩ (fun pt u H locs hpt hP hD hS => ?_)
  have hP : va_P D vwCl [(h0, .inr (1, [.long (lN P), .ref ra, .ref rb])), (xa, .inl (cJ, 512, .inr (.inl Xf))), (ya, .inl (cJ, 512, .inr (.inl Yf))), (ra, .inl (cJ, 512, .inr (.inl A5))), (rb, .inl (cJ, 512, .inr (.inl Bf)))] H := hP
  have hD : va_D A [(h0, .inr (1, [.long (lN P), .ref ra, .ref rb])), (xa, .inl (cJ, 512, .inr (.inl Xf))), (ya, .inl (cJ, 512, .inr (.inl Yf))), (ra, .inl (cJ, 512, .inr (.inl A5))), (rb, .inl (cJ, 512, .inr (.inl Bf)))] := hD
  refine k_tl (lN (nt_iv P (2 ^ b))) hpt ?_
  refine lv_lstore (lv' := [(7, .long (lN (nt_iv P (2 ^ b)))), (0, .ref h0), (3, .int (nI (2 ^ b))), (4, .int (nI tw.toNat)), (5, .long (lN tn))]) hx hb dX1_product_199 hl (by decide) rfl (fun ls hl => ?_)
  refine lv_iconst (v := nI 0) hx hb dX1_product_201 (by decide) ?_
  refine lv_istore (lv' := [(9, .int (nI 0)), (7, .long (lN (nt_iv P (2 ^ b)))), (0, .ref h0), (3, .int (nI (2 ^ b))), (4, .int (nI tw.toNat)), (5, .long (lN tn))]) hx hb dX1_product_202 hl (by decide) rfl (fun ls hl => ?_)
  refine lp_part (a2 := fun j => a4 j * (ui ^ j % P) % P) C hP1 hP2 hb9 hA hK (Nat.mod_lt _ (by omega)) (fun j hj => ⟨hW5.1 j hj, Nat.mod_lt _ (by omega)⟩) (fun A' H locs ls hU hP hD hS => kk A' H locs ls hU.1 hP hD hS) (2 ^ b + 1) 0 A5 H locs ls (by omega) (Nat.zero_le _) (nt_up_0 _ _) hP hD hS (lv_sub hl [2, 3, 1, 0] rfl)
set_option maxHeartbeats 4000000 in
set_option maxRecDepth 100000 in
theorem rp_tail {p : Program} {l : Launch} {e : Env} {s : State} {m : MethodId} {args : Array Value} {below : List Frame} {meth : Method} {c : Code} {Q : State → Prop} {D : va_G} {A : Nat → Prop} {h0 ra rb xa ya P b : Nat} {cJ : ClassId} {Xf Yf : Nat → Int64} {tw : Bool} {tn : Nat} {a1 b1 : Nat → Nat} {Af Bf : Nat → Int64} (C : k_C p s m args meth c yX1_product cX1_product 10 none) (hP1 : 1 < P) (hP2 : P < 2 ^ 30) (hb9 : b ≤ 9) (hA : ∀ q : Nat, s.heap.size ≤ q → A q) (hK : va_K D vwCl [(cJ, .long)] s) (hP3 : 3 < P) (htn : tn < P) (hnP : 2 ^ b < P) (hrr : ∀ m, m + 1 = b → nt_c P ((nt_rt P (2 ^ b) : Int) ^ (2 ^ m)) (-1)) (hri : ∀ m, m + 1 = b → nt_c P ((nt_iv P (nt_rt P (2 ^ b)) : Int) ^ (2 ^ m)) (-1)) (ha : ∀ j, j < 2 ^ b → Af j = lN (a1 j) ∧ a1 j < P) (hb0 : ∀ j, j < 2 ^ b → Bf j = lN (b1 j) ∧ b1 j < P)
    (kk : ∀ (A' B' : Nat → Int64) (a2 b2 a4 : Nat → Nat) (H : Heap) (locs : List Loc) (ls : Array Slot), (∀ j, j < 2 ^ b → nt_c P (a2 j) (nt_ev (2 ^ b) (fun i => (a1 i : Int)) ((nt_rt P (2 ^ b) : Int) ^ j))) → (∀ j, j < 2 ^ b → nt_c P (b2 j) (nt_ev (2 ^ b) (fun i => (b1 i : Int)) ((nt_rt P (2 ^ b) : Int) ^ j))) → (∀ k, k < 2 ^ b → nt_c P (a4 k) (nt_ev (2 ^ b) (fun i => ((a2 i * b2 i % P : Nat) : Int)) ((nt_iv P (nt_rt P (2 ^ b)) : Int) ^ k))) → (∀ j, j < 2 ^ b → A' j = lN (a4 j * ((if tw = true then nt_iv P tn else 1) ^ j % P) % P * nt_iv P (2 ^ b) % P)) → va_P D vwCl [(h0, .inr (1, [.long (lN P), .ref ra, .ref rb])), (xa, .inl (cJ, 512, .inr (.inl Xf))), (ya, .inl (cJ, 512, .inr (.inl Yf))), (ra, .inl (cJ, 512, .inr (.inl A'))), (rb, .inl (cJ, 512, .inr (.inl B')))] H → va_D A [(h0, .inr (1, [.long (lN P), .ref ra, .ref rb])), (xa, .inl (cJ, 512, .inr (.inl Xf))), (ya, .inl (cJ, 512, .inr (.inl Yf))), (ra, .inl (cJ, 512, .inr (.inl A'))), (rb, .inl (cJ, 512, .inr (.inl B')))] → va_S A s.heap H locs → W p l e rk2 s m args below meth c H locs 0 0 Q (F0 m 238 ls []))
    {H : Heap} {locs : List Loc} {ls : Array Slot} (hP : va_P D vwCl [(h0, .inr (1, [.long (lN P), .ref ra, .ref rb])), (xa, .inl (cJ, 512, .inr (.inl Xf))), (ya, .inl (cJ, 512, .inr (.inl Yf))), (ra, .inl (cJ, 512, .inr (.inl Af))), (rb, .inl (cJ, 512, .inr (.inl Bf)))] H) (hD : va_D A [(h0, .inr (1, [.long (lN P), .ref ra, .ref rb])), (xa, .inl (cJ, 512, .inr (.inl Xf))), (ya, .inl (cJ, 512, .inr (.inl Yf))), (ra, .inl (cJ, 512, .inr (.inl Af))), (rb, .inl (cJ, 512, .inr (.inl Bf)))]) (hS : va_S A s.heap H locs) (hl : lv_has ls 10 [(0, .ref h0), (3, .int (nI (2 ^ b))), (4, .int (nI tw.toNat)), (5, .long (lN tn))]) : W p l e rk2 s m args below meth c H locs 0 0 Q (F0 m 81 ls []) := by
  obtain ⟨hx, hb, hml, hr, hlocks, hown, hin, hts⟩ := id C
  have hown : s.vm.findClass RX1 = some m.cls := hown
  have hb2 := nt_2b hb9
  have hp2 : 0 < 2 ^ b := Nat.two_pow_pos b
  have hrt : nt_rt P (2 ^ b) < P := Nat.mod_lt _ (by omega)
  have hrti : nt_iv P (nt_rt P (2 ^ b)) < P := Nat.mod_lt _ (by omega)
  have htw : tw.toNat ≤ 1 := Bool.toNat_le tw
  refine lv_aload_n hx hb dX1_product_81 rfl (lv_at hl 0 rfl) ?_
  refine lv_aload_n hx hb dX1_product_82 rfl (lv_at hl 0 rfl) ?_
  refine va_get (D := D) (ci := 1) (v := .ref ra) (C := RX1) (T := TX1) (N := 3) hx hb hts in_X1 hown hK hP 0 rfl rfl 1 (by decide) (hts _ q28) (fun _ h9 => h9) rfl dX1_product_83 ?_
  refine lv_iload_n hx hb dX1_product_86 rfl (lv_at hl 1 rfl) ?_
  refine lv_aload_n hx hb dX1_product_87 rfl (lv_at hl 0 rfl) ?_
  refine lv_iload_n hx hb dX1_product_88 rfl (lv_at hl 1 rfl) ?_
  refine k_cVl (own := RX1) (wr := [(xa, .inl (cJ, 512, .inr (.inl Xf))), (ya, .inl (cJ, 512, .inr (.inl Yf))), (ra, .inl (cJ, 512, .inr (.inl Af))), (rb, .inl (cJ, 512, .inr (.inl Bf)))]) (wo := fun u => [(h0, .inr (1, [.long (lN P), .ref ra, .ref rb])), (xa, .inl (cJ, 512, .inr (.inl Xf))), (ya, .inl (cJ, 512, .inr (.inl Yf))), (ra, .inl (cJ, 512, .inr (.inl Af))), (rb, .inl (cJ, 512, .inr (.inl Bf)))]) C rfl (m_root l D h0 ra rb P hP1 hP2 hP3 (2 ^ b) hp2 (by omega)) (cwV 1 hts (lw_V q103 q104 q105 q9 q106) rfl rfl rfl (by decide +kernel) ⟨Nat.le_of_ble_eq_true rfl, Nat.le_of_ble_eq_true rfl⟩) hK hP hD hS hA 0 1 rfl rfl rfl [] rfl [0] [1, 2, 3, 4] rfl (by decide) rfl (by decide) (by decide) [4, 0, 1, 2, 3] (fun _ => rfl) (by decide) rfl hl.1 rfl (Nat.le_of_ble_eq_true rfl) dX1_product_89 ⟨Nat.zero_le _, Nat.zero_le _⟩ (fun r1 u H locs e1 hP hD hS => ?_)
  have hP : va_P D vwCl [(h0, .inr (1, [.long (lN P), .ref ra, .ref rb])), (xa, .inl (cJ, 512, .inr (.inl Xf))), (ya, .inl (cJ, 512, .inr (.inl Yf))), (ra, .inl (cJ, 512, .inr (.inl Af))), (rb, .inl (cJ, 512, .inr (.inl Bf)))] H := hP
  have hD : va_D A [(h0, .inr (1, [.long (lN P), .ref ra, .ref rb])), (xa, .inl (cJ, 512, .inr (.inl Xf))), (ya, .inl (cJ, 512, .inr (.inl Yf))), (ra, .inl (cJ, 512, .inr (.inl Af))), (rb, .inl (cJ, 512, .inr (.inl Bf)))] := hD
  refine k_tl (lN (nt_rt P (2 ^ b))) e1 ?_
  refine k_cVv (own := RX1) (wr := [(xa, .inl (cJ, 512, .inr (.inl Xf))), (ya, .inl (cJ, 512, .inr (.inl Yf))), (rb, .inl (cJ, 512, .inr (.inl Bf)))]) (wo := fun A2 => [(h0, .inr (1, [.long (lN P), .ref ra, .ref rb])), (xa, .inl (cJ, 512, .inr (.inl Xf))), (ya, .inl (cJ, 512, .inr (.inl Yf))), (ra, .inl (cJ, 512, .inr (.inl A2))), (rb, .inl (cJ, 512, .inr (.inl Bf)))]) C rfl (m_transform l D h0 ra rb P hP1 hP2 ra (nt_rt P (2 ^ b)) b cJ a1 Af hrt hb9 hrr ha) (cwV 3 hts (lw_V q116 q118 qs4 q9 q119) rfl rfl rfl (by decide +kernel) ⟨Nat.le_of_ble_eq_true rfl, Nat.le_of_ble_eq_true rfl⟩) hK hP hD hS hA 0 1 rfl rfl rfl [0] rfl [0, 3] [1, 2, 4] rfl (by decide) rfl (by decide) (by decide) [3, 0, 1, 4, 2] (fun _ => rfl) (by decide) rfl hl.1 rfl (Nat.le_of_ble_eq_true rfl) dX1_product_92 ⟨Nat.zero_le _, Nat.zero_le _⟩ (fun A2 H locs hT1 hP hD hKn hS => ?_)
  have hP : va_P D vwCl [(h0, .inr (1, [.long (lN P), .ref ra, .ref rb])), (xa, .inl (cJ, 512, .inr (.inl Xf))), (ya, .inl (cJ, 512, .inr (.inl Yf))), (ra, .inl (cJ, 512, .inr (.inl A2))), (rb, .inl (cJ, 512, .inr (.inl Bf)))] H := hP
  have hD : va_D A [(h0, .inr (1, [.long (lN P), .ref ra, .ref rb])), (xa, .inl (cJ, 512, .inr (.inl Xf))), (ya, .inl (cJ, 512, .inr (.inl Yf))), (ra, .inl (cJ, 512, .inr (.inl A2))), (rb, .inl (cJ, 512, .inr (.inl Bf)))] := hD
  obtain ⟨a2, hT1⟩ := hT1
  refine lv_aload_n hx hb dX1_product_95 rfl (lv_at hl 0 rfl) ?_
  refine lv_aload_n hx hb dX1_product_96 rfl (lv_at hl 0 rfl) ?_
  refine va_get (D := D) (ci := 1) (v := .ref rb) (C := RX1) (T := TX1) (N := 3) hx hb hts in_X1 hown hK hP 0 rfl rfl 2 (by decide) (hts _ q29) (fun _ h9 => h9) rfl dX1_product_97 ?_
  refine lv_iload_n hx hb dX1_product_100 rfl (lv_at hl 1 rfl) ?_
  refine lv_aload_n hx hb dX1_product_101 rfl (lv_at hl 0 rfl) ?_
  refine lv_iload_n hx hb dX1_product_102 rfl (lv_at hl 1 rfl) ?_
  refine k_cVl (own := RX1) (wr := [(xa, .inl (cJ, 512, .inr (.inl Xf))), (ya, .inl (cJ, 512, .inr (.inl Yf))), (ra, .inl (cJ, 512, .inr (.inl A2))), (rb, .inl (cJ, 512, .inr (.inl Bf)))]) (wo := fun u => [(h0, .inr (1, [.long (lN P), .ref ra, .ref rb])), (xa, .inl (cJ, 512, .inr (.inl Xf))), (ya, .inl (cJ, 512, .inr (.inl Yf))), (ra, .inl (cJ, 512, .inr (.inl A2))), (rb, .inl (cJ, 512, .inr (.inl Bf)))]) C rfl (m_root l D h0 ra rb P hP1 hP2 hP3 (2 ^ b) hp2 (by omega)) (cwV 1 hts (lw_V q103 q104 q105 q9 q106) rfl rfl rfl (by decide +kernel) ⟨Nat.le_of_ble_eq_true rfl, Nat.le_of_ble_eq_true rfl⟩) hK hP hD hS hA 0 1 rfl rfl rfl [] rfl [0] [1, 2, 3, 4] rfl (by decide) rfl (by decide) (by decide) [4, 0, 1, 2, 3] (fun _ => rfl) (by decide) rfl hl.1 rfl (Nat.le_of_ble_eq_true rfl) dX1_product_103 ⟨Nat.zero_le _, Nat.zero_le _⟩ (fun r2 u H locs e2 hP hD hS => ?_)
  have hP : va_P D vwCl [(h0, .inr (1, [.long (lN P), .ref ra, .ref rb])), (xa, .inl (cJ, 512, .inr (.inl Xf))), (ya, .inl (cJ, 512, .inr (.inl Yf))), (ra, .inl (cJ, 512, .inr (.inl A2))), (rb, .inl (cJ, 512, .inr (.inl Bf)))] H := hP
  have hD : va_D A [(h0, .inr (1, [.long (lN P), .ref ra, .ref rb])), (xa, .inl (cJ, 512, .inr (.inl Xf))), (ya, .inl (cJ, 512, .inr (.inl Yf))), (ra, .inl (cJ, 512, .inr (.inl A2))), (rb, .inl (cJ, 512, .inr (.inl Bf)))] := hD
  refine k_tl (lN (nt_rt P (2 ^ b))) e2 ?_
  refine k_cVv (own := RX1) (wr := [(xa, .inl (cJ, 512, .inr (.inl Xf))), (ya, .inl (cJ, 512, .inr (.inl Yf))), (ra, .inl (cJ, 512, .inr (.inl A2)))]) (wo := fun B2 => [(h0, .inr (1, [.long (lN P), .ref ra, .ref rb])), (xa, .inl (cJ, 512, .inr (.inl Xf))), (ya, .inl (cJ, 512, .inr (.inl Yf))), (ra, .inl (cJ, 512, .inr (.inl A2))), (rb, .inl (cJ, 512, .inr (.inl B2)))]) C rfl (m_transform l D h0 ra rb P hP1 hP2 rb (nt_rt P (2 ^ b)) b cJ b1 Bf hrt hb9 hrr hb0) (cwV 3 hts (lw_V q116 q118 qs4 q9 q119) rfl rfl rfl (by decide +kernel) ⟨Nat.le_of_ble_eq_true rfl, Nat.le_of_ble_eq_true rfl⟩) hK hP hD hS hA 0 1 rfl rfl rfl [0] rfl [0, 4] [1, 2, 3] rfl (by decide) rfl (by decide) (by decide) [3, 0, 1, 2, 4] (fun _ => rfl) (by decide) rfl hl.1 rfl (Nat.le_of_ble_eq_true rfl) dX1_product_106 ⟨Nat.zero_le _, Nat.zero_le _⟩ (fun B2 H locs hT2 hP hD hKn hS => ?_)
  have hP : va_P D vwCl [(h0, .inr (1, [.long (lN P), .ref ra, .ref rb])), (xa, .inl (cJ, 512, .inr (.inl Xf))), (ya, .inl (cJ, 512, .inr (.inl Yf))), (ra, .inl (cJ, 512, .inr (.inl A2))), (rb, .inl (cJ, 512, .inr (.inl B2)))] H := hP
  have hD : va_D A [(h0, .inr (1, [.long (lN P), .ref ra, .ref rb])), (xa, .inl (cJ, 512, .inr (.inl Xf))), (ya, .inl (cJ, 512, .inr (.inl Yf))), (ra, .inl (cJ, 512, .inr (.inl A2))), (rb, .inl (cJ, 512, .inr (.inl B2)))] := hD
  obtain ⟨b2, hT2⟩ := hT2
  refine lv_iconst (v := nI 0) hx hb dX1_product_109 (by decide) ?_
  refine lv_istore (lv' := [(7, .int (nI 0)), (0, .ref h0), (3, .int (nI (2 ^ b))), (4, .int (nI tw.toNat)), (5, .long (lN tn))]) hx hb dX1_product_110 hl (by decide) rfl (fun ls hl => ?_)
  refine lp_mul (tw := tw) (tn := tn) C hP1 hP2 hb9 hA hK (fun j hj => (hT1 j hj).1) (fun j hj => (hT2 j hj).1) (fun A3 H locs ls hU hP hD hS hl => ?_) (2 ^ b + 1) 0 A2 H locs ls (by omega) (Nat.zero_le _) (nt_up_0 _ _) hP hD hS (lv_sub hl [1, 2, 3, 4, 0] rfl)
  refine lv_aload_n hx hb dX1_product_151 rfl (lv_at hl 0 rfl) ?_
  refine lv_aload_n hx hb dX1_product_152 rfl (lv_at hl 0 rfl) ?_
  refine va_get (D := D) (ci := 1) (v := .ref ra) (C := RX1) (T := TX1) (N := 3) hx hb hts in_X1 hown hK hP 0 rfl rfl 1 (by decide) (hts _ q28) (fun _ h9 => h9) rfl dX1_product_153 ?_
  refine lv_iload_n hx hb dX1_product_156 rfl (lv_at hl 1 rfl) ?_
  refine lv_aload_n hx hb dX1_product_157 rfl (lv_at hl 0 rfl) ?_
  refine lv_aload_n hx hb dX1_product_158 rfl (lv_at hl 0 rfl) ?_
  refine lv_iload_n hx hb dX1_product_159 rfl (lv_at hl 1 rfl) ?_
  refine k_cVl (own := RX1) (wr := [(xa, .inl (cJ, 512, .inr (.inl Xf))), (ya, .inl (cJ, 512, .inr (.inl Yf))), (ra, .inl (cJ, 512, .inr (.inl A3))), (rb, .inl (cJ, 512, .inr (.inl B2)))]) (wo := fun u => [(h0, .inr (1, [.long (lN P), .ref ra, .ref rb])), (xa, .inl (cJ, 512, .inr (.inl Xf))), (ya, .inl (cJ, 512, .inr (.inl Yf))), (ra, .inl (cJ, 512, .inr (.inl A3))), (rb, .inl (cJ, 512, .inr (.inl B2)))]) C rfl (m_root l D h0 ra rb P hP1 hP2 hP3 (2 ^ b) hp2 (by omega)) (cwV 1 hts (lw_V q103 q104 q105 q9 q106) rfl rfl rfl (by decide +kernel) ⟨Nat.le_of_ble_eq_true rfl, Nat.le_of_ble_eq_true rfl⟩) hK hP hD hS hA 0 1 rfl rfl rfl [] rfl [0] [1, 2, 3, 4] rfl (by decide) rfl (by decide) (by decide) [4, 0, 1, 2, 3] (fun _ => rfl) (by decide) rfl hl.1 rfl (Nat.le_of_ble_eq_true rfl) dX1_product_160 ⟨Nat.zero_le _, Nat.zero_le _⟩ (fun r3 u H locs e3 hP hD hS => ?_)
  have hP : va_P D vwCl [(h0, .inr (1, [.long (lN P), .ref ra, .ref rb])), (xa, .inl (cJ, 512, .inr (.inl Xf))), (ya, .inl (cJ, 512, .inr (.inl Yf))), (ra, .inl (cJ, 512, .inr (.inl A3))), (rb, .inl (cJ, 512, .inr (.inl B2)))] H := hP
  have hD : va_D A [(h0, .inr (1, [.long (lN P), .ref ra, .ref rb])), (xa, .inl (cJ, 512, .inr (.inl Xf))), (ya, .inl (cJ, 512, .inr (.inl Yf))), (ra, .inl (cJ, 512, .inr (.inl A3))), (rb, .inl (cJ, 512, .inr (.inl B2)))] := hD
  refine k_tl (lN (nt_rt P (2 ^ b))) e3 ?_
  refine k_cVl (own := RX1) (wr := [(xa, .inl (cJ, 512, .inr (.inl Xf))), (ya, .inl (cJ, 512, .inr (.inl Yf))), (ra, .inl (cJ, 512, .inr (.inl A3))), (rb, .inl (cJ, 512, .inr (.inl B2)))]) (wo := fun u => [(h0, .inr (1, [.long (lN P), .ref ra, .ref rb])), (xa, .inl (cJ, 512, .inr (.inl Xf))), (ya, .inl (cJ, 512, .inr (.inl Yf))), (ra, .inl (cJ, 512, .inr (.inl A3))), (rb, .inl (cJ, 512, .inr (.inl B2)))]) C rfl (m_inverse l D h0 ra rb P hP1 hP2 (nt_rt P (2 ^ b)) hrt) (cwV 1 hts (lw_V q123 q124 q125 q9 q126) rfl rfl rfl (by decide +kernel) ⟨Nat.le_of_ble_eq_true rfl, Nat.le_of_ble_eq_true rfl⟩) hK hP hD hS hA 0 1 rfl rfl rfl [] rfl [0] [1, 2, 3, 4] rfl (by decide) rfl (by decide) (by decide) [4, 0, 1, 2, 3] (fun _ => rfl) (by decide) rfl hl.1 rfl (Nat.le_of_ble_eq_true rfl) dX1_product_163 ⟨Nat.zero_le _, Nat.zero_le _⟩ (fun r4 u H locs e4 hP hD hS => ?_)
  have hP : va_P D vwCl [(h0, .inr (1, [.long (lN P), .ref ra, .ref rb])), (xa, .inl (cJ, 512, .inr (.inl Xf))), (ya, .inl (cJ, 512, .inr (.inl Yf))), (ra, .inl (cJ, 512, .inr (.inl A3))), (rb, .inl (cJ, 512, .inr (.inl B2)))] H := hP
  have hD : va_D A [(h0, .inr (1, [.long (lN P), .ref ra, .ref rb])), (xa, .inl (cJ, 512, .inr (.inl Xf))), (ya, .inl (cJ, 512, .inr (.inl Yf))), (ra, .inl (cJ, 512, .inr (.inl A3))), (rb, .inl (cJ, 512, .inr (.inl B2)))] := hD
  refine k_tl (lN (nt_iv P (nt_rt P (2 ^ b)))) e4 ?_
  refine k_cVv (own := RX1) (wr := [(xa, .inl (cJ, 512, .inr (.inl Xf))), (ya, .inl (cJ, 512, .inr (.inl Yf))), (rb, .inl (cJ, 512, .inr (.inl B2)))]) (wo := fun A4 => [(h0, .inr (1, [.long (lN P), .ref ra, .ref rb])), (xa, .inl (cJ, 512, .inr (.inl Xf))), (ya, .inl (cJ, 512, .inr (.inl Yf))), (ra, .inl (cJ, 512, .inr (.inl A4))), (rb, .inl (cJ, 512, .inr (.inl B2)))]) C rfl (m_transform l D h0 ra rb P hP1 hP2 ra (nt_iv P (nt_rt P (2 ^ b))) b cJ (fun j => a2 j * b2 j % P) A3 hrti hb9 hri (fun j hj => ⟨hU.1 j hj, Nat.mod_lt _ (by omega)⟩)) (cwV 3 hts (lw_V q116 q118 qs4 q9 q119) rfl rfl rfl (by decide +kernel) ⟨Nat.le_of_ble_eq_true rfl, Nat.le_of_ble_eq_true rfl⟩) hK hP hD hS hA 0 1 rfl rfl rfl [0] rfl [0, 3] [1, 2, 4] rfl (by decide) rfl (by decide) (by decide) [3, 0, 1, 4, 2] (fun _ => rfl) (by decide) rfl hl.1 rfl (Nat.le_of_ble_eq_true rfl) dX1_product_166 ⟨Nat.zero_le _, Nat.zero_le _⟩ (fun A4 H locs hT4 hP hD hKn hS => ?_)
  have hP : va_P D vwCl [(h0, .inr (1, [.long (lN P), .ref ra, .ref rb])), (xa, .inl (cJ, 512, .inr (.inl Xf))), (ya, .inl (cJ, 512, .inr (.inl Yf))), (ra, .inl (cJ, 512, .inr (.inl A4))), (rb, .inl (cJ, 512, .inr (.inl B2)))] H := hP
  have hD : va_D A [(h0, .inr (1, [.long (lN P), .ref ra, .ref rb])), (xa, .inl (cJ, 512, .inr (.inl Xf))), (ya, .inl (cJ, 512, .inr (.inl Yf))), (ra, .inl (cJ, 512, .inr (.inl A4))), (rb, .inl (cJ, 512, .inr (.inl B2)))] := hD
  obtain ⟨a4, hT4⟩ := hT4
  refine lv_aload_n hx hb dX1_product_169 rfl (lv_at hl 0 rfl) ?_
  refine lv_aload_n hx hb dX1_product_170 rfl (lv_at hl 0 rfl) ?_
  refine va_get (D := D) (ci := 1) (v := .ref ra) (C := RX1) (T := TX1) (N := 3) hx hb hts in_X1 hown hK hP 0 rfl rfl 1 (by decide) (hts _ q28) (fun _ h9 => h9) rfl dX1_product_171 ?_
  refine lv_iload_n hx hb dX1_product_174 rfl (lv_at hl 1 rfl) ?_
  refine lv_iload hx hb dX1_product_175 (lv_at hl 2 rfl) ?_
  refine k_if_eq (tgt := 189) hx hb dX1_product_177 (by decide) (by omega) (fun c1 => ?_) (fun c1 => ?_)
  · have e5 : tw = false := by cases tw with | false => rfl | true => exact absurd c1 (by decide)
    subst e5
    refine lv_lconst (v := lN 1) hx hb dX1_product_189 (by decide) ?_
    exact rp_end (tw := false) (tn := tn) (ui := 1) C hP1 hP2 hb9 hA hK hP1 hnP (fun j hj => (hT4 j hj).1) (fun A' H locs ls hE hP hD hS => kk A' B2 a2 b2 a4 H locs ls (fun j hj => (hT1 j hj).2) (fun j hj => (hT2 j hj).2) (fun j hj => (hT4 j hj).2) hE hP hD hS) hP hD hS hl
  · have e5 : tw = true := by cases tw with | false => exact absurd rfl c1 | true => rfl
    subst e5
    refine lv_aload_n hx hb dX1_product_180 rfl (lv_at hl 0 rfl) ?_
    refine lv_lload hx hb dX1_product_181 (lv_at hl 3 rfl) ?_
    refine k_cVl (own := RX1) (wr := [(xa, .inl (cJ, 512, .inr (.inl Xf))), (ya, .inl (cJ, 512, .inr (.inl Yf))), (ra, .inl (cJ, 512, .inr (.inl A4))), (rb, .inl (cJ, 512, .inr (.inl B2)))]) (wo := fun u => [(h0, .inr (1, [.long (lN P), .ref ra, .ref rb])), (xa, .inl (cJ, 512, .inr (.inl Xf))), (ya, .inl (cJ, 512, .inr (.inl Yf))), (ra, .inl (cJ, 512, .inr (.inl A4))), (rb, .inl (cJ, 512, .inr (.inl B2)))]) C rfl (m_inverse l D h0 ra rb P hP1 hP2 tn htn) (cwV 1 hts (lw_V q123 q124 q125 q9 q126) rfl rfl rfl (by decide +kernel) ⟨Nat.le_of_ble_eq_true rfl, Nat.le_of_ble_eq_true rfl⟩) hK hP hD hS hA 0 1 rfl rfl rfl [] rfl [0] [1, 2, 3, 4] rfl (by decide) rfl (by decide) (by decide) [4, 0, 1, 2, 3] (fun _ => rfl) (by decide) rfl hl.1 rfl (Nat.le_of_ble_eq_true rfl) dX1_product_183 ⟨Nat.zero_le _, Nat.zero_le _⟩ (fun r5 u H locs e6 hP hD hS => ?_)
    have hP : va_P D vwCl [(h0, .inr (1, [.long (lN P), .ref ra, .ref rb])), (xa, .inl (cJ, 512, .inr (.inl Xf))), (ya, .inl (cJ, 512, .inr (.inl Yf))), (ra, .inl (cJ, 512, .inr (.inl A4))), (rb, .inl (cJ, 512, .inr (.inl B2)))] H := hP
    have hD : va_D A [(h0, .inr (1, [.long (lN P), .ref ra, .ref rb])), (xa, .inl (cJ, 512, .inr (.inl Xf))), (ya, .inl (cJ, 512, .inr (.inl Yf))), (ra, .inl (cJ, 512, .inr (.inl A4))), (rb, .inl (cJ, 512, .inr (.inl B2)))] := hD
    refine k_tl (lN (nt_iv P tn)) e6 ?_
    refine lv_goto (tgt := 190) hx hb dX1_product_186 (by decide) ?_
    exact rp_end (tw := true) (tn := tn) (ui := nt_iv P tn) C hP1 hP2 hb9 hA hK (Nat.mod_lt _ (by omega)) hnP (fun j hj => (hT4 j hj).1) (fun A' H locs ls hE hP hD hS => kk A' B2 a2 b2 a4 H locs ls (fun j hj => (hT1 j hj).2) (fun j hj => (hT2 j hj).2) (fun j hj => (hT4 j hj).2) hE hP hD hS) hP hD hS hl
set_option maxHeartbeats 4000000 in
set_option maxRecDepth 100000 in
/-- product(x, y, n, twisted) of a Ring: the answer, mod P -/
theorem m_rprod (l : Launch) (D : va_G) (h0 ra rb P : Nat) (hP1 : 1 < P) (hP2 : P < 2 ^ 30) (hP3 : 512 < P) (xa ya b : Nat) (tw : Bool) (cJ : ClassId) (X Y : Nat → Int) (Xf Yf Af Bf : Nat → Int64) (hb9 : b ≤ 9) (hck : nt_chk P b = true) (hX : ∀ j, j < 2 ^ b → Xf j = lI (X j) ∧ -(2 ^ 62) ≤ X j ∧ X j ≤ 2 ^ 62) (hY : ∀ j, j < 2 ^ b → Yf j = lI (Y j) ∧ -(2 ^ 62) ≤ Y j ∧ Y j ≤ 2 ^ 62) : k_Mv l yX1_product cX1_product 10 rk2 D [.ref h0, .ref xa, .ref ya, .int (nI (2 ^ b)), .int (nI tw.toNat)] [(h0, .inr (1, [.long (lN P), .ref ra, .ref rb])), (xa, .inl (cJ, 512, .inr (.inl Xf))), (ya, .inl (cJ, 512, .inr (.inl Yf))), (ra, .inl (cJ, 512, .inr (.inl Af))), (rb, .inl (cJ, 512, .inr (.inl Bf)))] [(cJ, .long)] (fun u : (Nat → Int64) × (Nat → Int64) => ∃ V : Nat → Nat, (∀ j, j < 2 ^ b → u.1 j = lN (V j) ∧ V j < P) ∧ ∀ Z : Nat → Int, (∀ t : Int, nt_c P (t ^ (2 ^ b)) (nt_tg tw) → nt_c P (nt_ev (2 ^ b) Z t) (nt_ev (2 ^ b) X t * nt_ev (2 ^ b) Y t)) → ∀ j, j < 2 ^ b → nt_c P (V j) (Z j)) (fun (u : (Nat → Int64) × (Nat → Int64)) => [(h0, .inr (1, [.long (lN P), .ref ra, .ref rb])), (xa, .inl (cJ, 512, .inr (.inl Xf))), (ya, .inl (cJ, 512, .inr (.inl Yf))), (ra, .inl (cJ, 512, .inr (.inl u.1))), (rb, .inl (cJ, 512, .inr (.inl u.2)))]) (fun _ => [(cJ, .long)]) 0 0 := by
  intro sz
  refine k_met (Qc := fun A => va_Qv (fun u : (Nat → Int64) × (Nat → Int64) => ∃ V : Nat → Nat, (∀ j, j < 2 ^ b → u.1 j = lN (V j) ∧ V j < P) ∧ ∀ Z : Nat → Int, (∀ t : Int, nt_c P (t ^ (2 ^ b)) (nt_tg tw) → nt_c P (nt_ev (2 ^ b) Z t) (nt_ev (2 ^ b) X t * nt_ev (2 ^ b) Y t)) → ∀ j, j < 2 ^ b → nt_c P (V j) (Z j)) (fun (u : (Nat → Int64) × (Nat → Int64)) t => k_B D A [(h0, .inr (1, [.long (lN P), .ref ra, .ref rb])), (xa, .inl (cJ, 512, .inr (.inl Xf))), (ya, .inl (cJ, 512, .inr (.inl Yf))), (ra, .inl (cJ, 512, .inr (.inl u.1))), (rb, .inl (cJ, 512, .inr (.inl u.2)))] [(cJ, .long)] t) A) (by decide) (Nat.le_of_ble_eq_true rfl) ?_
  intro p e s m below meth c A ls C hP hK hD hA hS hl
  obtain ⟨hx, hb, hml, hr, hlocks, hown, hin, hts⟩ := id C
  have hown : s.vm.findClass RX1 = some m.cls := hown
  have hb2 := nt_2b hb9
  have hp2 : 0 < 2 ^ b := Nat.two_pow_pos b
  have htw : tw.toNat ≤ 1 := Bool.toNat_le tw
  obtain ⟨K1, K2⟩ := nt_chk_ok hP2 (by omega) (by omega) hck
  have htn : nt_rt P (2 * 2 ^ b) < P := Nat.mod_lt _ (by omega)
  have hl : lv_has ls 10 [(0, .ref h0), (1, .ref xa), (2, .ref ya), (3, .int (nI (2 ^ b))), (4, .int (nI tw.toNat))] := hl
  refine lv_iconst (v := nI 0) hx hb dX1_product_0 (by decide) ?_
  refine lv_istore (lv' := [(5, .int (nI 0)), (0, .ref h0), (1, .ref xa), (2, .ref ya), (3, .int (nI (2 ^ b))), (4, .int (nI tw.toNat))]) hx hb dX1_product_1 hl (by decide) rfl (fun ls hl => ?_)
  refine lp_take (tw := tw) C hP1 hP2 hb9 hA hK hX hY (fun A1 B1 H locs ls hU hV hP hD hS hl => ?_) (2 ^ b + 1) 0 Af Bf s.heap [] ls (by omega) (Nat.zero_le _) (nt_up_0 _ _) (nt_up_0 _ _) hP hD hS (lv_sub hl [1, 2, 3, 4, 5, 0] rfl)
  refine lv_aload_n hx hb dX1_product_45 rfl (lv_at hl 0 rfl) ?_
  refine lv_iconst (v := nI 2) hx hb dX1_product_46 (by decide) ?_
  refine lv_iload_n hx hb dX1_product_47 rfl (lv_at hl 1 rfl) ?_
  refine k_imul hx hb dX1_product_48  ?_
  refine k_cVl (own := RX1) (wr := [(xa, .inl (cJ, 512, .inr (.inl Xf))), (ya, .inl (cJ, 512, .inr (.inl Yf))), (ra, .inl (cJ, 512, .inr (.inl A1))), (rb, .inl (cJ, 512, .inr (.inl B1)))]) (wo := fun u => [(h0, .inr (1, [.long (lN P), .ref ra, .ref rb])), (xa, .inl (cJ, 512, .inr (.inl Xf))), (ya, .inl (cJ, 512, .inr (.inl Yf))), (ra, .inl (cJ, 512, .inr (.inl A1))), (rb, .inl (cJ, 512, .inr (.inl B1)))]) C rfl (m_root l D h0 ra rb P hP1 hP2 (by omega) (2 * 2 ^ b) (by omega) (by omega)) (cwV 1 hts (lw_V q103 q104 q105 q9 q106) rfl rfl rfl (by decide +kernel) ⟨Nat.le_of_ble_eq_true rfl, Nat.le_of_ble_eq_true rfl⟩) hK hP hD hS hA 0 1 rfl rfl rfl [] rfl [0] [1, 2, 3, 4] rfl (by decide) rfl (by decide) (by decide) [4, 0, 1, 2, 3] (fun _ => rfl) (by decide) rfl hl.1 rfl (Nat.le_of_ble_eq_true rfl) dX1_product_49 ⟨Nat.zero_le _, Nat.zero_le _⟩ (fun r0 u H locs e0 hP hD hS => ?_)
  have hP : va_P D vwCl [(h0, .inr (1, [.long (lN P), .ref ra, .ref rb])), (xa, .inl (cJ, 512, .inr (.inl Xf))), (ya, .inl (cJ, 512, .inr (.inl Yf))), (ra, .inl (cJ, 512, .inr (.inl A1))), (rb, .inl (cJ, 512, .inr (.inl B1)))] H := hP
  have hD : va_D A [(h0, .inr (1, [.long (lN P), .ref ra, .ref rb])), (xa, .inl (cJ, 512, .inr (.inl Xf))), (ya, .inl (cJ, 512, .inr (.inl Yf))), (ra, .inl (cJ, 512, .inr (.inl A1))), (rb, .inl (cJ, 512, .inr (.inl B1)))] := hD
  refine k_tl (lN (nt_rt P (2 * 2 ^ b))) e0 ?_
  refine lv_lstore (lv' := [(5, .long (lN (nt_rt P (2 * 2 ^ b)))), (0, .ref h0), (3, .int (nI (2 ^ b))), (4, .int (nI tw.toNat))]) hx hb dX1_product_52 hl (by decide) rfl (fun ls hl => ?_)
  refine lv_iload hx hb dX1_product_54 (lv_at hl 3 rfl) ?_
  refine k_if_eq (tgt := 81) hx hb dX1_product_56 (by decide) (by omega) (fun c1 => ?_) (fun c1 => ?_)
  · have e5 : tw = false := by cases tw with | false => rfl | true => exact absurd c1 (by decide)
    subst e5
    refine rp_tail (tw := false) (tn := nt_rt P (2 * 2 ^ b)) (a1 := (fun j => (X j % (P : Int)).toNat)) (b1 := (fun j => (Y j % (P : Int)).toNat)) C hP1 hP2 hb9 hA hK (by omega) htn (by omega) K1.2.2.2.2.2.1 K1.2.2.2.2.2.2 (fun j hj => ⟨hU.1 j hj, (nt_c_tn (by omega) (X j)).2⟩) (fun j hj => ⟨hV.1 j hj, (nt_c_tn (by omega) (Y j)).2⟩) (fun A' B' a2 b2 a4 H locs ls h1 h2 h3 h4 hP hD hS => ?_) hP hD hS (lv_sub hl [1, 2, 3, 0] rfl)
    refine W.vret hx hb hr (fun t ht hW => ⟨⟨(A', B'), rfl, ⟨fun j => a4 j * (1 ^ j % P) % P * nt_iv P (2 ^ b) % P, fun j hj => ⟨h4 j hj, Nat.mod_lt _ (by omega)⟩, fun Z hZ => ?_⟩, by rw [ht]; exact hP, va_K.moved hW.alike hK, hD⟩, hS.F ht⟩) hS.2.2 dX1_product_238
    exact nt_ring K1 (X := X) (Y := Y) (fun i _ => nt_c_tr (nt_c_tn (by omega) (X i)).1 (nt_c_of (by rw [Int.one_pow, Int.mul_one]))) (fun i _ => nt_c_tr (nt_c_tn (by omega) (Y i)).1 (nt_c_of (by rw [Int.one_pow, Int.mul_one]))) h1 h2 (fun j _ => nt_cast_mul P _ _) h3 (fun k _ => nt_c_tr (nt_cast_mul P _ _) (nt_c_mul (nt_c_tr (nt_cast_mul P _ _) (nt_c_mul (nt_c_rf P _) (nt_cast_pow P 1 k))) (nt_c_rf P _))) hZ
  · have e5 : tw = true := by cases tw with | false => exact absurd rfl c1 | true => rfl
    subst e5
    refine lv_aload_n hx hb dX1_product_59 rfl (lv_at hl 1 rfl) ?_
    refine lv_aload_n hx hb dX1_product_60 rfl (lv_at hl 1 rfl) ?_
    refine va_get (D := D) (ci := 1) (v := .ref ra) (C := RX1) (T := TX1) (N := 3) hx hb hts in_X1 hown hK hP 0 rfl rfl 1 (by decide) (hts _ q28) (fun _ h9 => h9) rfl dX1_product_61 ?_
    refine lv_iload_n hx hb dX1_product_64 rfl (lv_at hl 2 rfl) ?_
    refine lv_lload hx hb dX1_product_65 (lv_at hl 0 rfl) ?_
    refine k_cVv (own := RX1) (wr := [(xa, .inl (cJ, 512, .inr (.inl Xf))), (ya, .inl (cJ, 512, .inr (.inl Yf))), (rb, .inl (cJ, 512, .inr (.inl B1)))]) (wo := fun A2 => [(h0, .inr (1, [.long (lN P), .ref ra, .ref rb])), (xa, .inl (cJ, 512, .inr (.inl Xf))), (ya, .inl (cJ, 512, .inr (.inl Yf))), (ra, .inl (cJ, 512, .inr (.inl A2))), (rb, .inl (cJ, 512, .inr (.inl B1)))]) C rfl (m_weigh l D h0 ra rb P hP1 hP2 ra (2 ^ b) (nt_rt P (2 * 2 ^ b)) cJ (fun j => (X j % (P : Int)).toNat) A1 hb2 htn (fun j hj => ⟨hU.1 j hj, (nt_c_tn (by omega) (X j)).2⟩)) (cwV 3 hts (lw_V q112 q114 qs3 q9 q115) rfl rfl rfl (by decide +kernel) ⟨Nat.le_of_ble_eq_true rfl, Nat.le_of_ble_eq_true rfl⟩) hK hP hD hS hA 0 1 rfl rfl rfl [0] rfl [0, 3] [1, 2, 4] rfl (by decide) rfl (by decide) (by decide) [3, 0, 1, 4, 2] (fun _ => rfl) (by decide) rfl hl.1 rfl (Nat.le_of_ble_eq_true rfl) dX1_product_67 ⟨Nat.zero_le _, Nat.zero_le _⟩ (fun A2 H locs hW1 hP hD hKn hS => ?_)
    have hP : va_P D vwCl [(h0, .inr (1, [.long (lN P), .ref ra, .ref rb])), (xa, .inl (cJ, 512, .inr (.inl Xf))), (ya, .inl (cJ, 512, .inr (.inl Yf))), (ra, .inl (cJ, 512, .inr (.inl A2))), (rb, .inl (cJ, 512, .inr (.inl B1)))] H := hP
    have hD : va_D A [(h0, .inr (1, [.long (lN P), .ref ra, .ref rb])), (xa, .inl (cJ, 512, .inr (.inl Xf))), (ya, .inl (cJ, 512, .inr (.inl Yf))), (ra, .inl (cJ, 512, .inr (.inl A2))), (rb, .inl (cJ, 512, .inr (.inl B1)))] := hD
    refine lv_aload_n hx hb dX1_product_70 rfl (lv_at hl 1 rfl) ?_
    refine lv_aload_n hx hb dX1_product_71 rfl (lv_at hl 1 rfl) ?_
    refine va_get (D := D) (ci := 1) (v := .ref rb) (C := RX1) (T := TX1) (N := 3) hx hb hts in_X1 hown hK hP 0 rfl rfl 2 (by decide) (hts _ q29) (fun _ h9 => h9) rfl dX1_product_72 ?_
    refine lv_iload_n hx hb dX1_product_75 rfl (lv_at hl 2 rfl) ?_
    refine lv_lload hx hb dX1_product_76 (lv_at hl 0 rfl) ?_
    refine k_cVv (own := RX1) (wr := [(xa, .inl (cJ, 512, .inr (.inl Xf))), (ya, .inl (cJ, 512, .inr (.inl Yf))), (ra, .inl (cJ, 512, .inr (.inl A2)))]) (wo := fun B2 => [(h0, .inr (1, [.long (lN P), .ref ra, .ref rb])), (xa, .inl (cJ, 512, .inr (.inl Xf))), (ya, .inl (cJ, 512, .inr (.inl Yf))), (ra, .inl (cJ, 512, .inr (.inl A2))), (rb, .inl (cJ, 512, .inr (.inl B2)))]) C rfl (m_weigh l D h0 ra rb P hP1 hP2 rb (2 ^ b) (nt_rt P (2 * 2 ^ b)) cJ (fun j => (Y j % (P : Int)).toNat) B1 hb2 htn (fun j hj => ⟨hV.1 j hj, (nt_c_tn (by omega) (Y j)).2⟩)) (cwV 3 hts (lw_V q112 q114 qs3 q9 q115) rfl rfl rfl (by decide +kernel) ⟨Nat.le_of_ble_eq_true rfl, Nat.le_of_ble_eq_true rfl⟩) hK hP hD hS hA 0 1 rfl rfl rfl [0] rfl [0, 4] [1, 2, 3] rfl (by decide) rfl (by decide) (by decide) [3, 0, 1, 2, 4] (fun _ => rfl) (by decide) rfl hl.1 rfl (Nat.le_of_ble_eq_true rfl) dX1_product_78 ⟨Nat.zero_le _, Nat.zero_le _⟩ (fun B2 H locs hW2 hP hD hKn hS => ?_)
    have hP : va_P D vwCl [(h0, .inr (1, [.long (lN P), .ref ra, .ref rb])), (xa, .inl (cJ, 512, .inr (.inl Xf))), (ya, .inl (cJ, 512, .inr (.inl Yf))), (ra, .inl (cJ, 512, .inr (.inl A2))), (rb, .inl (cJ, 512, .inr (.inl B2)))] H := hP
    have hD : va_D A [(h0, .inr (1, [.long (lN P), .ref ra, .ref rb])), (xa, .inl (cJ, 512, .inr (.inl Xf))), (ya, .inl (cJ, 512, .inr (.inl Yf))), (ra, .inl (cJ, 512, .inr (.inl A2))), (rb, .inl (cJ, 512, .inr (.inl B2)))] := hD
    refine rp_tail (tw := true) (tn := nt_rt P (2 * 2 ^ b)) (a1 := (fun j => (X j % (P : Int)).toNat * (nt_rt P (2 * 2 ^ b) ^ j % P) % P)) (b1 := (fun j => (Y j % (P : Int)).toNat * (nt_rt P (2 * 2 ^ b) ^ j % P) % P)) C hP1 hP2 hb9 hA hK (by omega) htn (by omega) K2.2.2.2.2.2.1 K2.2.2.2.2.2.2 (fun j hj => ⟨hW1.1 j hj, Nat.mod_lt _ (by omega)⟩) (fun j hj => ⟨hW2.1 j hj, Nat.mod_lt _ (by omega)⟩) (fun A' B' a2 b2 a4 H locs ls h1 h2 h3 h4 hP hD hS => ?_) hP hD hS (lv_sub hl [1, 2, 3, 0] rfl)
    refine W.vret hx hb hr (fun t ht hW => ⟨⟨(A', B'), rfl, ⟨fun j => a4 j * (nt_iv P (nt_rt P (2 * 2 ^ b)) ^ j % P) % P * nt_iv P (2 ^ b) % P, fun j hj => ⟨h4 j hj, Nat.mod_lt _ (by omega)⟩, fun Z hZ => ?_⟩, by rw [ht]; exact hP, va_K.moved hW.alike hK, hD⟩, hS.F ht⟩) hS.2.2 dX1_product_238
    exact nt_ring K2 (X := X) (Y := Y) (fun i _ => nt_c_tr (nt_cast_mul P _ _) (nt_c_mul (nt_c_tn (by omega) (X i)).1 (nt_cast_pow P _ i))) (fun i _ => nt_c_tr (nt_cast_mul P _ _) (nt_c_mul (nt_c_tn (by omega) (Y i)).1 (nt_cast_pow P _ i))) h1 h2 (fun j _ => nt_cast_mul P _ _) h3 (fun k _ => nt_c_tr (nt_cast_mul P _ _) (nt_c_mul (nt_c_tr (nt_cast_mul P _ _) (nt_c_mul (nt_c_rf P _) (nt_cast_pow P (nt_iv P (nt_rt P (2 * 2 ^ b))) k))) (nt_c_rf P _))) hZ
end
section
/-! ProductDesk: number, left, right, wipe, at, lay -/
abbrev rkL : Room := { frames := 1, cells := 0, slots := 0, locals := 30 }
def nt_num (v : Int32) : Int32 := v <<< (nI 12 &&& 31) >>> (nI 12 &&& 31)
theorem nt_num_bd (v : Int32) : -(2 ^ 19) ≤ (nt_num v).toInt ∧ (nt_num v).toInt ≤ 2 ^ 19 := by
  have h1 := pk_shr (v <<< (nI 12 &&& 31)) (nI 12 &&& 31) 12 (by decide)
  have h2 := Int32.le_toInt (v <<< (nI 12 &&& 31))
  have h3 := Int32.toInt_lt (v <<< (nI 12 &&& 31))
  unfold nt_num
  rw [h1, Int.shiftRight_eq_div_pow]
  omega
def nt_put4 (f : Nat → Int32) (n : Nat) (p q r s : Int32) : Nat → Int32 := upd (upd (upd (upd f n (nt_num p)) (n + 1) (nt_num q)) (n + 2) (nt_num r)) (n + 3) (nt_num s)
/-- the answer r of left and right, the row and the count behind them -/
def nt_p4 (f : Nat → Int32) (n : Nat) (p1 p2 p3 p4 : Int32) (r : Int32) (u : (Nat → Int32) × Nat) : Prop := (n + 4 ≤ 256 → r = nI 1 ∧ u.1 = nt_put4 f n p1 p2 p3 p4 ∧ u.2 = n + 4) ∧ (256 < n + 4 → r = nI 0 ∧ u.1 = f ∧ u.2 = n)
/-- rows of small numbers -/
def nt_sm (f : Nat → Int32) : Prop := ∀ j, j < 256 → -(2 ^ 19) ≤ (f j).toInt ∧ (f j).toInt ≤ 2 ^ 19
theorem nt_sm_upd {f : Nat → Int32} (h : nt_sm f) (k : Nat) (v : Int32) : nt_sm (upd f k (nt_num v)) := by
  intro j hj
  by_cases e : j = k
  · subst e
    rw [pk_us]
    exact nt_num_bd v
  · rw [pk_un e]
    exact h j hj
theorem nt_sm_put4 {f : Nat → Int32} (h : nt_sm f) (n : Nat) (p q r s : Int32) : nt_sm (nt_put4 f n p q r s) := nt_sm_upd (nt_sm_upd (nt_sm_upd (nt_sm_upd h _ _) _ _) _ _) _ _
set_option maxHeartbeats 4000000 in
set_option maxRecDepth 100000 in
/-- number(v) -/
theorem m_number (l : Launch) (D : va_G) (v : Int32) : k_Mi l yX0_number cX0_number 1 (some .int) rk0 D [.int v] [] [] (fun r (_ : Unit) => r = nt_num v) (fun (_ : Unit) => []) := by
  intro sz
  refine k_met (Qc := fun A => va_Qi (fun r (_ : Unit) => r = nt_num v) (fun (_ : Unit) t => k_B D A [] [] t) A) (by decide) (Nat.le_of_ble_eq_true rfl) ?_
  intro p e s m below meth c A ls C hP hK hD hA hS hl
  obtain ⟨hx, hb, hml, hr, hlocks, hown, hin, hts⟩ := id C
  have hl : lv_has ls 1 [(0, .int v)] := hl
  refine lv_iload_n hx hb dX0_number_0 rfl (lv_at hl 0 rfl) ?_
  refine lv_bipush (v := nI 12) hx hb dX0_number_1 (by decide) ?_
  refine lv_ishl hx hb dX0_number_3 ?_
  refine lv_bipush (v := nI 12) hx hb dX0_number_4 (by decide) ?_
  refine lv_ishr hx hb dX0_number_6 ?_
  exact W.iret (v := (v <<< ((nI 12) &&& 31)) >>> ((nI 12) &&& 31)) hx hb hr (fun t ht hW => ⟨⟨(v <<< ((nI 12) &&& 31)) >>> ((nI 12) &&& 31), (), rfl, rfl, by rw [ht]; exact hP, va_K.moved hW.alike hK, hD⟩, hS.F ht⟩) hS.2.2 dX0_number_7
set_option maxHeartbeats 4000000 in
set_option maxRecDepth 100000 in
/-- left(p, q, r, s): four numbers more, if they fit -/
theorem m_left (l : Launch) (D : va_G) (hd f1 f2 al ar az ax ay nl nr : Nat) (cI : ClassId) (f : Nat → Int32) (p1 p2 p3 p4 : Int32) (hn : nl ≤ 256) : k_Mi l yX0_left cX0_left 5 (some .boolean) rkL D [.ref hd, .int p1, .int p2, .int p3, .int p4] [(hd, .inr (0, [.ref f1, .ref f2, .ref al, .ref ar, .ref az, .ref ax, .ref ay, .int (nI nl), .int (nI nr)])), (al, .inl (cI, 256, .inl f))] [(cI, .int)] (fun r (u : (Nat → Int32) × Nat) => nt_p4 f nl p1 p2 p3 p4 r u) (fun (u : (Nat → Int32) × Nat) => [(hd, .inr (0, [.ref f1, .ref f2, .ref al, .ref ar, .ref az, .ref ax, .ref ay, .int (nI u.2), .int (nI nr)])), (al, .inl (cI, 256, .inl u.1))]) := by
  intro sz
  refine k_met (Qc := fun A => va_Qi (fun r (u : (Nat → Int32) × Nat) => nt_p4 f nl p1 p2 p3 p4 r u) (fun (u : (Nat → Int32) × Nat) t => k_B D A [(hd, .inr (0, [.ref f1, .ref f2, .ref al, .ref ar, .ref az, .ref ax, .ref ay, .int (nI u.2), .int (nI nr)])), (al, .inl (cI, 256, .inl u.1))] [(cI, .int)] t) A) (by decide) (Nat.le_of_ble_eq_true rfl) ?_
  intro p e s m below meth c A ls C hP hK hD hA hS hl
  obtain ⟨hx, hb, hml, hr, hlocks, hown, hin, hts⟩ := id C
  have hown : s.vm.findClass RX0 = some m.cls := hown
  have hl : lv_has ls 5 [(0, .ref hd), (1, .int p1), (2, .int p2), (3, .int p3), (4, .int p4)] := hl
  refine lv_aload_n hx hb dX0_left_0 rfl (lv_at hl 0 rfl) ?_
  refine va_get (D := D) (ci := 0) (v := .int (nI nl)) (C := RX0) (T := TX0) (N := 9) hx hb hts in_X0 hown hK hP 0 rfl rfl 7 (by decide) (hts _ q46) (fun _ h9 => h9) rfl dX0_left_1 ?_
  refine lv_iconst (v := nI 4) hx hb dX0_left_4 (by decide) ?_
  refine k_iadd hx hb dX0_left_5  ?_
  refine lv_sipush (v := nI 256) hx hb dX0_left_6 (by decide) ?_
  refine k_icmp_le (tgt := 14) hx hb dX0_left_9 (by decide) (by omega) (by omega) (fun c1 => ?_) (fun c1 => ?_)
  · refine lv_aload_n hx hb dX0_left_14 rfl (lv_at hl 0 rfl) ?_
    refine va_get (D := D) (ci := 0) (v := .ref al) (C := RX0) (T := TX0) (N := 9) hx hb hts in_X0 hown hK hP 0 rfl rfl 2 (by decide) (hts _ q41) (fun _ h9 => h9) rfl dX0_left_15 ?_
    refine lv_aload_n hx hb dX0_left_18 rfl (lv_at hl 0 rfl) ?_
    refine va_get (D := D) (ci := 0) (v := .int (nI nl)) (C := RX0) (T := TX0) (N := 9) hx hb hts in_X0 hown hK hP 0 rfl rfl 7 (by decide) (hts _ q46) (fun _ h9 => h9) rfl dX0_left_19 ?_
    refine lv_iload_n hx hb dX0_left_22 rfl (lv_at hl 1 rfl) ?_
    refine k_cSi (own := RX0) (wr := [(hd, .inr (0, [.ref f1, .ref f2, .ref al, .ref ar, .ref az, .ref ax, .ref ay, .int (nI nl), .int (nI nr)])), (al, .inl (cI, 256, .inl f))]) (wo := fun u => [(hd, .inr (0, [.ref f1, .ref f2, .ref al, .ref ar, .ref az, .ref ax, .ref ay, .int (nI nl), .int (nI nr)])), (al, .inl (cI, 256, .inl f))]) C rfl (m_number l D p1) (va_cwS 1 hts (lw_S q72 q73 q8 q74) rfl rfl rfl (by decide +kernel) ⟨Nat.le_of_ble_eq_true rfl, Nat.le_of_ble_eq_true rfl⟩) hK hP hD hS hA [] rfl [] [0, 1] rfl (by decide) rfl (by decide) (by decide) [0, 1] (fun _ => rfl) (by decide) rfl hl.1 rfl (Nat.le_of_ble_eq_true rfl) dX0_left_23 ⟨Nat.zero_le _, Nat.zero_le _⟩ (fun v0 u H locs e0 hP hD hS => ?_)
    have hP : va_P D vwCl [(hd, .inr (0, [.ref f1, .ref f2, .ref al, .ref ar, .ref az, .ref ax, .ref ay, .int (nI nl), .int (nI nr)])), (al, .inl (cI, 256, .inl f))] H := hP
    have hD : va_D A [(hd, .inr (0, [.ref f1, .ref f2, .ref al, .ref ar, .ref az, .ref ax, .ref ay, .int (nI nl), .int (nI nr)])), (al, .inl (cI, 256, .inl f))] := hD
    refine k_ti (nt_num p1) e0 ?_
    refine k_iast hx hb hK hP hD hS 1 0 rfl rfl (by omega) (by decide) dX0_left_26 (fun H locs hP hD hS => ?_)
    have hP : va_P D vwCl [(hd, .inr (0, [.ref f1, .ref f2, .ref al, .ref ar, .ref az, .ref ax, .ref ay, .int (nI nl), .int (nI nr)])), (al, .inl (cI, 256, .inl (upd f nl (nt_num p1))))] H := hP
    have hD : va_D A [(hd, .inr (0, [.ref f1, .ref f2, .ref al, .ref ar, .ref az, .ref ax, .ref ay, .int (nI nl), .int (nI nr)])), (al, .inl (cI, 256, .inl (upd f nl (nt_num p1))))] := hD
    refine lv_aload_n hx hb dX0_left_27 rfl (lv_at hl 0 rfl) ?_
    refine va_get (D := D) (ci := 0) (v := .ref al) (C := RX0) (T := TX0) (N := 9) hx hb hts in_X0 hown hK hP 0 rfl rfl 2 (by decide) (hts _ q41) (fun _ h9 => h9) rfl dX0_left_28 ?_
    refine lv_aload_n hx hb dX0_left_31 rfl (lv_at hl 0 rfl) ?_
    refine va_get (D := D) (ci := 0) (v := .int (nI nl)) (C := RX0) (T := TX0) (N := 9) hx hb hts in_X0 hown hK hP 0 rfl rfl 7 (by decide) (hts _ q46) (fun _ h9 => h9) rfl dX0_left_32 ?_
    refine lv_iconst (v := nI 1) hx hb dX0_left_35 (by decide) ?_
    refine k_iadd hx hb dX0_left_36  ?_
    refine lv_iload_n hx hb dX0_left_37 rfl (lv_at hl 2 rfl) ?_
    refine k_cSi (own := RX0) (wr := [(hd, .inr (0, [.ref f1, .ref f2, .ref al, .ref ar, .ref az, .ref ax, .ref ay, .int (nI nl), .int (nI nr)])), (al, .inl (cI, 256, .inl (upd f nl (nt_num p1))))]) (wo := fun u => [(hd, .inr (0, [.ref f1, .ref f2, .ref al, .ref ar, .ref az, .ref ax, .ref ay, .int (nI nl), .int (nI nr)])), (al, .inl (cI, 256, .inl (upd f nl (nt_num p1))))]) C rfl (m_number l D p2) (va_cwS 1 hts (lw_S q72 q73 q8 q74) rfl rfl rfl (by decide +kernel) ⟨Nat.le_of_ble_eq_true rfl, Nat.le_of_ble_eq_true rfl⟩) hK hP hD hS hA [] rfl [] [0, 1] rfl (by decide) rfl (by decide) (by decide) [0, 1] (fun _ => rfl) (by decide) rfl hl.1 rfl (Nat.le_of_ble_eq_true rfl) dX0_left_38 ⟨Nat.zero_le _, Nat.zero_le _⟩ (fun v1 u H locs e1 hP hD hS => ?_)
    have hP : va_P D vwCl [(hd, .inr (0, [.ref f1, .ref f2, .ref al, .ref ar, .ref az, .ref ax, .ref ay, .int (nI nl), .int (nI nr)])), (al, .inl (cI, 256, .inl (upd f nl (nt_num p1))))] H := hP
    have hD : va_D A [(hd, .inr (0, [.ref f1, .ref f2, .ref al, .ref ar, .ref az, .ref ax, .ref ay, .int (nI nl), .int (nI nr)])), (al, .inl (cI, 256, .inl (upd f nl (nt_num p1))))] := hD
    refine k_ti (nt_num p2) e1 ?_
    refine k_iast hx hb hK hP hD hS 1 0 rfl rfl (by omega) (by decide) dX0_left_41 (fun H locs hP hD hS => ?_)
    have hP : va_P D vwCl [(hd, .inr (0, [.ref f1, .ref f2, .ref al, .ref ar, .ref az, .ref ax, .ref ay, .int (nI nl), .int (nI nr)])), (al, .inl (cI, 256, .inl (upd (upd f nl (nt_num p1)) (nl + 1) (nt_num p2))))] H := hP
    have hD : va_D A [(hd, .inr (0, [.ref f1, .ref f2, .ref al, .ref ar, .ref az, .ref ax, .ref ay, .int (nI nl), .int (nI nr)])), (al, .inl (cI, 256, .inl (upd (upd f nl (nt_num p1)) (nl + 1) (nt_num p2))))] := hD
    refine lv_aload_n hx hb dX0_left_42 rfl (lv_at hl 0 rfl) ?_
    refine va_get (D := D) (ci := 0) (v := .ref al) (C := RX0) (T := TX0) (N := 9) hx hb hts in_X0 hown hK hP 0 rfl rfl 2 (by decide) (hts _ q41) (fun _ h9 => h9) rfl dX0_left_43 ?_
    refine lv_aload_n hx hb dX0_left_46 rfl (lv_at hl 0 rfl) ?_
    refine va_get (D := D) (ci := 0) (v := .int (nI nl)) (C := RX0) (T := TX0) (N := 9) hx hb hts in_X0 hown hK hP 0 rfl rfl 7 (by decide) (hts _ q46) (fun _ h9 => h9) rfl dX0_left_47 ?_
    refine lv_iconst (v := nI 2) hx hb dX0_left_50 (by decide) ?_
    refine k_iadd hx hb dX0_left_51  ?_
    refine lv_iload_n hx hb dX0_left_52 rfl (lv_at hl 3 rfl) ?_
    refine k_cSi (own := RX0) (wr := [(hd, .inr (0, [.ref f1, .ref f2, .ref al, .ref ar, .ref az, .ref ax, .ref ay, .int (nI nl), .int (nI nr)])), (al, .inl (cI, 256, .inl (upd (upd f nl (nt_num p1)) (nl + 1) (nt_num p2))))]) (wo := fun u => [(hd, .inr (0, [.ref f1, .ref f2, .ref al, .ref ar, .ref az, .ref ax, .ref ay, .int (nI nl), .int (nI nr)])), (al, .inl (cI, 256, .inl (upd (upd f nl (nt_num p1)) (nl + 1) (nt_num p2))))]) C rfl (m_number l D p3) (va_cwS 1 hts (lw_S q72 q73 q8 q74) rfl rfl rfl (by decide +kernel) ⟨Nat.le_of_ble_eq_true rfl, Nat.le_of_ble_eq_true rfl⟩) hK hP hD hS hA [] rfl [] [0, 1] rfl (by decide) rfl (by decide) (by decide) [0, 1] (fun _ => rfl) (by decide) rfl hl.1 rfl (Nat.le_of_ble_eq_true rfl) dX0_left_53 ⟨Nat.zero_le _, Nat.zero_le _⟩ (fun v2 u H locs e2 hP hD hS => ?_)
    have hP : va_P D vwCl [(hd, .inr (0, [.ref f1, .ref f2, .ref al, .ref ar, .ref az, .ref ax, .ref ay, .int (nI nl), .int (nI nr)])), (al, .inl (cI, 256, .inl (upd (upd f nl (nt_num p1)) (nl + 1) (nt_num p2))))] H := hP
    have hD : va_D A [(hd, .inr (0, [.ref f1, .ref f2, .ref al, .ref ar, .ref az, .ref ax, .ref ay, .int (nI nl), .int (nI nr)])), (al, .inl (cI, 256, .inl (upd (upd f nl (nt_num p1)) (nl + 1) (nt_num p2))))] := hD
    refine k_ti (nt_num p3) e2 ?_
    refine k_iast hx hb hK hP hD hS 1 0 rfl rfl (by omega) (by decide) dX0_left_56 (fun H locs hP hD hS => ?_)
    have hP : va_P D vwCl [(hd, .inr (0, [.ref f1, .ref f2, .ref al, .ref ar, .ref az, .ref ax, .ref ay, .int (nI nl), .int (nI nr)])), (al, .inl (cI, 256, .inl (upd (upd (upd f nl (nt_num p1)) (nl + 1) (nt_num p2)) (nl + 2) (nt_num p3))))] H := hP
    have hD : va_D A [(hd, .inr (0, [.ref f1, .ref f2, .ref al, .ref ar, .ref az, .ref ax, .ref ay, .int (nI nl), .int (nI nr)])), (al, .inl (cI, 256, .inl (upd (upd (upd f nl (nt_num p1)) (nl + 1) (nt_num p2)) (nl + 2) (nt_num p3))))] := hD
    refine lv_aload_n hx hb dX0_left_57 rfl (lv_at hl 0 rfl) ?_
    refine va_get (D := D) (ci := 0) (v := .ref al) (C := RX0) (T := TX0) (N := 9) hx hb hts in_X0 hown hK hP 0 rfl rfl 2 (by decide) (hts _ q41) (fun _ h9 => h9) rfl dX0_left_58 ?_
    refine lv_aload_n hx hb dX0_left_61 rfl (lv_at hl 0 rfl) ?_
    refine va_get (D := D) (ci := 0) (v := .int (nI nl)) (C := RX0) (T := TX0) (N := 9) hx hb hts in_X0 hown hK hP 0 rfl rfl 7 (by decide) (hts _ q46) (fun _ h9 => h9) rfl dX0_left_62 ?_
    refine lv_iconst (v := nI 3) hx hb dX0_left_65 (by decide) ?_
    refine k_iadd hx hb dX0_left_66  ?_
    refine lv_iload hx hb dX0_left_67 (lv_at hl 4 rfl) ?_
    refine k_cSi (own := RX0) (wr := [(hd, .inr (0, [.ref f1, .ref f2, .ref al, .ref ar, .ref az, .ref ax, .ref ay, .int (nI nl), .int (nI nr)])), (al, .inl (cI, 256, .inl (upd (upd (upd f nl (nt_num p1)) (nl + 1) (nt_num p2)) (nl + 2) (nt_num p3))))]) (wo := fun u => [(hd, .inr (0, [.ref f1, .ref f2, .ref al, .ref ar, .ref az, .ref ax, .ref ay, .int (nI nl), .int (nI nr)])), (al, .inl (cI, 256, .inl (upd (upd (upd f nl (nt_num p1)) (nl + 1) (nt_num p2)) (nl + 2) (nt_num p3))))]) C rfl (m_number l D p4) (va_cwS 1 hts (lw_S q72 q73 q8 q74) rfl rfl rfl (by decide +kernel) ⟨Nat.le_of_ble_eq_true rfl, Nat.le_of_ble_eq_true rfl⟩) hK hP hD hS hA [] rfl [] [0, 1] rfl (by decide) rfl (by decide) (by decide) [0, 1] (fun _ => rfl) (by decide) rfl hl.1 rfl (Nat.le_of_ble_eq_true rfl) dX0_left_69 ⟨Nat.zero_le _, Nat.zero_le _⟩ (fun v3 u H locs e3 hP hD hS => ?_)
    have hP : va_P D vwCl [(hd, .inr (0, [.ref f1, .ref f2, .ref al, .ref ar, .ref az, .ref ax, .ref ay, .int (nI nl), .int (nI nr)])), (al, .inl (cI, 256, .inl (upd (upd (upd f nl (nt_num p1)) (nl + 1) (nt_num p2)) (nl + 2) (nt_num p3))))] H := hP
    have hD : va_D A [(hd, .inr (0, [.ref f1, .ref f2, .ref al, .ref ar, .ref az, .ref ax, .ref ay, .int (nI nl), .int (nI nr)])), (al, .inl (cI, 256, .inl (upd (upd (upd f nl (nt_num p1)) (nl + 1) (nt_num p2)) (nl + 2) (nt_num p3))))] := hD
    refine k_ti (nt_num p4) e3 ?_
    refine k_iast hx hb hK hP hD hS 1 0 rfl rfl (by omega) (by decide) dX0_left_72 (fun H locs hP hD hS => ?_)
    have hP : va_P D vwCl [(hd, .inr (0, [.ref f1, .ref f2, .ref al, .ref ar, .ref az, .ref ax, .ref ay, .int (nI nl), .int (nI nr)])), (al, .inl (cI, 256, .inl (upd (upd (upd (upd f nl (nt_num p1)) (nl + 1) (nt_num p2)) (nl + 2) (nt_num p3)) (nl + 3) (nt_num p4))))] H := hP
    have hD : va_D A [(hd, .inr (0, [.ref f1, .ref f2, .ref al, .ref ar, .ref az, .ref ax, .ref ay, .int (nI nl), .int (nI nr)])), (al, .inl (cI, 256, .inl (upd (upd (upd (upd f nl (nt_num p1)) (nl + 1) (nt_num p2)) (nl + 2) (nt_num p3)) (nl + 3) (nt_num p4))))] := hD
    refine lv_aload_n hx hb dX0_left_73 rfl (lv_at hl 0 rfl) ?_
    refine lv_dup hx hb dX0_left_74 rfl ?_
    refine va_get (D := D) (ci := 0) (v := .int (nI nl)) (C := RX0) (T := TX0) (N := 9) hx hb hts in_X0 hown hK hP 0 rfl rfl 7 (by decide) (hts _ q46) (fun _ h9 => h9) rfl dX0_left_75 ?_
    refine lv_iconst (v := nI 4) hx hb dX0_left_78 (by decide) ?_
    refine k_iadd hx hb dX0_left_79  ?_
    refine va_put (D := D) (ci := 0) (v := .int (nI (nl + 4))) (ty := .int) (C := RX0) (T := TX0) (N := 9) hx hb hts in_X0 tyX0 tyX0_ok nmX0 hown hK hP hD hS 0 rfl rfl 7 (by decide) (hts _ q46) (fun _ h9 => h9) rfl (by decide +kernel) rfl rfl (Nat.le_of_ble_eq_true rfl) dX0_left_80 (fun H locs hP hD hS => ?_)
    have hP : va_P D vwCl [(hd, .inr (0, [.ref f1, .ref f2, .ref al, .ref ar, .ref az, .ref ax, .ref ay, .int (nI (nl + 4)), .int (nI nr)])), (al, .inl (cI, 256, .inl (upd (upd (upd (upd f nl (nt_num p1)) (nl + 1) (nt_num p2)) (nl + 2) (nt_num p3)) (nl + 3) (nt_num p4))))] H := hP
    have hD : va_D A [(hd, .inr (0, [.ref f1, .ref f2, .ref al, .ref ar, .ref az, .ref ax, .ref ay, .int (nI (nl + 4)), .int (nI nr)])), (al, .inl (cI, 256, .inl (upd (upd (upd (upd f nl (nt_num p1)) (nl + 1) (nt_num p2)) (nl + 2) (nt_num p3)) (nl + 3) (nt_num p4))))] := hD
    refine lv_iconst (v := nI 1) hx hb dX0_left_83 (by decide) ?_
    exact W.zret (v := nI 1) hx hb hr rfl (fun t ht hW => ⟨⟨nI 1, (nt_put4 f nl p1 p2 p3 p4, nl + 4), rfl, ⟨fun _ => ⟨rfl, rfl, rfl⟩, fun h => absurd h (by omega)⟩, by rw [ht]; exact hP, va_K.moved hW.alike hK, hD⟩, hS.F ht⟩) hS.2.2 dX0_left_84
  · refine lv_iconst (v := nI 0) hx hb dX0_left_12 (by decide) ?_
    exact W.zret (v := nI 0) hx hb hr rfl (fun t ht hW => ⟨⟨nI 0, (f, nl), rfl, ⟨fun h => absurd h (by omega), fun _ => ⟨rfl, rfl, rfl⟩⟩, by rw [ht]; exact hP, va_K.moved hW.alike hK, hD⟩, hS.F ht⟩) hS.2.2 dX0_left_13
set_option maxHeartbeats 4000000 in
set_option maxRecDepth 100000 in
/-- right(p, q, r, s): four numbers more, if they fit -/
theorem m_right (l : Launch) (D : va_G) (hd f1 f2 al ar az ax ay nl nr : Nat) (cI : ClassId) (f : Nat → Int32) (p1 p2 p3 p4 : Int32) (hn : nr ≤ 256) : k_Mi l yX0_right cX0_right 5 (some .boolean) rkL D [.ref hd, .int p1, .int p2, .int p3, .int p4] [(hd, .inr (0, [.ref f1, .ref f2, .ref al, .ref ar, .ref az, .ref ax, .ref ay, .int (nI nl), .int (nI nr)])), (ar, .inl (cI, 256, .inl f))] [(cI, .int)] (fun r (u : (Nat → Int32) × Nat) => nt_p4 f nr p1 p2 p3 p4 r u) (fun (u : (Nat → Int32) × Nat) => [(hd, .inr (0, [.ref f1, .ref f2, .ref al, .ref ar, .ref az, .ref ax, .ref ay, .int (nI nl), .int (nI u.2)])), (ar, .inl (cI, 256, .inl u.1))]) := by
  intro sz
  refine k_met (Qc := fun A => va_Qi (fun r (u : (Nat → Int32) × Nat) => nt_p4 f nr p1 p2 p3 p4 r u) (fun (u : (Nat → Int32) × Nat) t => k_B D A [(hd, .inr (0, [.ref f1, .ref f2, .ref al, .ref ar, .ref az, .ref ax, .ref ay, .int (nI nl), .int (nI u.2)])), (ar, .inl (cI, 256, .inl u.1))] [(cI, .int)] t) A) (by decide) (Nat.le_of_ble_eq_true rfl) ?_
  intro p e s m below meth c A ls C hP hK hD hA hS hl
  obtain ⟨hx, hb, hml, hr, hlocks, hown, hin, hts⟩ := id C
  have hown : s.vm.findClass RX0 = some m.cls := hown
  have hl : lv_has ls 5 [(0, .ref hd), (1, .int p1), (2, .int p2), (3, .int p3), (4, .int p4)] := hl
  refine lv_aload_n hx hb dX0_right_0 rfl (lv_at hl 0 rfl) ?_
  refine va_get (D := D) (ci := 0) (v := .int (nI nr)) (C := RX0) (T := TX0) (N := 9) hx hb hts in_X0 hown hK hP 0 rfl rfl 8 (by decide) (hts _ q47) (fun _ h9 => h9) rfl dX0_right_1 ?_
  refine lv_iconst (v := nI 4) hx hb dX0_right_4 (by decide) ?_
  refine k_iadd hx hb dX0_right_5  ?_
  refine lv_sipush (v := nI 256) hx hb dX0_right_6 (by decide) ?_
  refine k_icmp_le (tgt := 14) hx hb dX0_right_9 (by decide) (by omega) (by omega) (fun c1 => ?_) (fun c1 => ?_)
  · refine lv_aload_n hx hb dX0_right_14 rfl (lv_at hl 0 rfl) ?_
    refine va_get (D := D) (ci := 0) (v := .ref ar) (C := RX0) (T := TX0) (N := 9) hx hb hts in_X0 hown hK hP 0 rfl rfl 3 (by decide) (hts _ q42) (fun _ h9 => h9) rfl dX0_right_15 ?_
    refine lv_aload_n hx hb dX0_right_18 rfl (lv_at hl 0 rfl) ?_
    refine va_get (D := D) (ci := 0) (v := .int (nI nr)) (C := RX0) (T := TX0) (N := 9) hx hb hts in_X0 hown hK hP 0 rfl rfl 8 (by decide) (hts _ q47) (fun _ h9 => h9) rfl dX0_right_19 ?_
    refine lv_iload_n hx hb dX0_right_22 rfl (lv_at hl 1 rfl) ?_
    refine k_cSi (own := RX0) (wr := [(hd, .inr (0, [.ref f1, .ref f2, .ref al, .ref ar, .ref az, .ref ax, .ref ay, .int (nI nl), .int (nI nr)])), (ar, .inl (cI, 256, .inl f))]) (wo := fun u => [(hd, .inr (0, [.ref f1, .ref f2, .ref al, .ref ar, .ref az, .ref ax, .ref ay, .int (nI nl), .int (nI nr)])), (ar, .inl (cI, 256, .inl f))]) C rfl (m_number l D p1) (va_cwS 1 hts (lw_S q72 q73 q8 q74) rfl rfl rfl (by decide +kernel) ⟨Nat.le_of_ble_eq_true rfl, Nat.le_of_ble_eq_true rfl⟩) hK hP hD hS hA [] rfl [] [0, 1] rfl (by decide) rfl (by decide) (by decide) [0, 1] (fun _ => rfl) (by decide) rfl hl.1 rfl (Nat.le_of_ble_eq_true rfl) dX0_right_23 ⟨Nat.zero_le _, Nat.zero_le _⟩ (fun v0 u H locs e0 hP hD hS => ?_)
    have hP : va_P D vwCl [(hd, .inr (0, [.ref f1, .ref f2, .ref al, .ref ar, .ref az, .ref ax, .ref ay, .int (nI nl), .int (nI nr)])), (ar, .inl (cI, 256, .inl f))] H := hP
    have hD : va_D A [(hd, .inr (0, [.ref f1, .ref f2, .ref al, .ref ar, .ref az, .ref ax, .ref ay, .int (nI nl), .int (nI nr)])), (ar, .inl (cI, 256, .inl f))] := hD
    refine k_ti (nt_num p1) e0 ?_
    refine k_iast hx hb hK hP hD hS 1 0 rfl rfl (by omega) (by decide) dX0_right_26 (fun H locs hP hD hS => ?_)
    have hP : va_P D vwCl [(hd, .inr (0, [.ref f1, .ref f2, .ref al, .ref ar, .ref az, .ref ax, .ref ay, .int (nI nl), .int (nI nr)])), (ar, .inl (cI, 256, .inl (upd f nr (nt_num p1))))] H := hP
    have hD : va_D A [(hd, .inr (0, [.ref f1, .ref f2, .ref al, .ref ar, .ref az, .ref ax, .ref ay, .int (nI nl), .int (nI nr)])), (ar, .inl (cI, 256, .inl (upd f nr (nt_num p1))))] := hD
    refine lv_aload_n hx hb dX0_right_27 rfl (lv_at hl 0 rfl) ?_
    refine va_get (D := D) (ci := 0) (v := .ref ar) (C := RX0) (T := TX0) (N := 9) hx hb hts in_X0 hown hK hP 0 rfl rfl 3 (by decide) (hts _ q42) (fun _ h9 => h9) rfl dX0_right_28 ?_
    refine lv_aload_n hx hb dX0_right_31 rfl (lv_at hl 0 rfl) ?_
    refine va_get (D := D) (ci := 0) (v := .int (nI nr)) (C := RX0) (T := TX0) (N := 9) hx hb hts in_X0 hown hK hP 0 rfl rfl 8 (by decide) (hts _ q47) (fun _ h9 => h9) rfl dX0_right_32 ?_
    refine lv_iconst (v := nI 1) hx hb dX0_right_35 (by decide) ?_
    refine k_iadd hx hb dX0_right_36  ?_
    refine lv_iload_n hx hb dX0_right_37 rfl (lv_at hl 2 rfl) ?_
    refine k_cSi (own := RX0) (wr := [(hd, .inr (0, [.ref f1, .ref f2, .ref al, .ref ar, .ref az, .ref ax, .ref ay, .int (nI nl), .int (nI nr)])), (ar, .inl (cI, 256, .inl (upd f nr (nt_num p1))))]) (wo := fun u => [(hd, .inr (0, [.ref f1, .ref f2, .ref al, .ref ar, .ref az, .ref ax, .ref ay, .int (nI nl), .int (nI nr)])), (ar, .inl (cI, 256, .inl (upd f nr (nt_num p1))))]) C rfl (m_number l D p2) (va_cwS 1 hts (lw_S q72 q73 q8 q74) rfl rfl rfl (by decide +kernel) ⟨Nat.le_of_ble_eq_true rfl, Nat.le_of_ble_eq_true rfl⟩) hK hP hD hS hA [] rfl [] [0, 1] rfl (by decide) rfl (by decide) (by decide) [0, 1] (fun _ => rfl) (by decide) rfl hl.1 rfl (Nat.le_of_ble_eq_true rfl) dX0_right_38 ⟨Nat.zero_le _, Nat.zero_le _⟩ (fun v1 u H locs e1 hP hD hS => ?_)
    have hP : va_P D vwCl [(hd, .inr (0, [.ref f1, .ref f2, .ref al, .ref ar, .ref az, .ref ax, .ref ay, .int (nI nl), .int (nI nr)])), (ar, .inl (cI, 256, .inl (upd f nr (nt_num p1))))] H := hP
    have hD : va_D A [(hd, .inr (0, [.ref f1, .ref f2, .ref al, .ref ar, .ref az, .ref ax, .ref ay, .int (nI nl), .int (nI nr)])), (ar, .inl (cI, 256, .inl (upd f nr (nt_num p1))))] := hD
    refine k_ti (nt_num p2) e1 ?_
    refine k_iast hx hb hK hP hD hS 1 0 rfl rfl (by omega) (by decide) dX0_right_41 (fun H locs hP hD hS => ?_)
    have hP : va_P D vwCl [(hd, .inr (0, [.ref f1, .ref f2, .ref al, .ref ar, .ref az, .ref ax, .ref ay, .int (nI nl), .int (nI nr)])), (ar, .inl (cI, 256, .inl (upd (upd f nr (nt_num p1)) (nr + 1) (nt_num p2))))] H := hP
    have hD : va_D A [(hd, .inr (0, [.ref f1, .ref f2, .ref al, .ref ar, .ref az, .ref ax, .ref ay, .int (nI nl), .int (nI nr)])), (ar, .inl (cI, 256, .inl (upd (upd f nr (nt_num p1)) (nr + 1) (nt_num p2))))] := hD
    refine lv_aload_n hx hb dX0_right_42 rfl (lv_at hl 0 rfl) ?_
    refine va_get (D := D) (ci := 0) (v := .ref ar) (C := RX0) (T := TX0) (N := 9) hx hb hts in_X0 hown hK hP 0 rfl rfl 3 (by decide) (hts _ q42) (fun _ h9 => h9) rfl dX0_right_43 ?_
    refine lv_aload_n hx hb dX0_right_46 rfl (lv_at hl 0 rfl) ?_
    refine va_get (D := D) (ci := 0) (v := .int (nI nr)) (C := RX0) (T := TX0) (N := 9) hx hb hts in_X0 hown hK hP 0 rfl rfl 8 (by decide) (hts _ q47) (fun _ h9 => h9) rfl dX0_right_47 ?_
    refine lv_iconst (v := nI 2) hx hb dX0_right_50 (by decide) ?_
    refine k_iadd hx hb dX0_right_51  ?_
    refine lv_iload_n hx hb dX0_right_52 rfl (lv_at hl 3 rfl) ?_
    refine k_cSi (own := RX0) (wr := [(hd, .inr (0, [.ref f1, .ref f2, .ref al, .ref ar, .ref az, .ref ax, .ref ay, .int (nI nl), .int (nI nr)])), (ar, .inl (cI, 256, .inl (upd (upd f nr (nt_num p1)) (nr + 1) (nt_num p2))))]) (wo := fun u => [(hd, .inr (0, [.ref f1, .ref f2, .ref al, .ref ar, .ref az, .ref ax, .ref ay, .int (nI nl), .int (nI nr)])), (ar, .inl (cI, 256, .inl (upd (upd f nr (nt_num p1)) (nr + 1) (nt_num p2))))]) C rfl (m_number l D p3) (va_cwS 1 hts (lw_S q72 q73 q8 q74) rfl rfl rfl (by decide +kernel) ⟨Nat.le_of_ble_eq_true rfl, Nat.le_of_ble_eq_true rfl⟩) hK hP hD hS hA [] rfl [] [0, 1] rfl (by decide) rfl (by decide) (by decide) [0, 1] (fun _ => rfl) (by decide) rfl hl.1 rfl (Nat.le_of_ble_eq_true rfl) dX0_right_53 ⟨Nat.zero_le _, Nat.zero_le _⟩ (fun v2 u H locs e2 hP hD hS => ?_)
    have hP : va_P D vwCl [(hd, .inr (0, [.ref f1, .ref f2, .ref al, .ref ar, .ref az, .ref ax, .ref ay, .int (nI nl), .int (nI nr)])), (ar, .inl (cI, 256, .inl (upd (upd f nr (nt_num p1)) (nr + 1) (nt_num p2))))] H := hP
    have hD : va_D A [(hd, .inr (0, [.ref f1, .ref f2, .ref al, .ref ar, .ref az, .ref ax, .ref ay, .int (nI nl), .int (nI nr)])), (ar, .inl (cI, 256, .inl (upd (upd f nr (nt_num p1)) (nr + 1) (nt_num p2))))] := hD
    refine k_ti (nt_num p3) e2 ?_
    refine k_iast hx hb hK hP hD hS 1 0 rfl rfl (by omega) (by decide) dX0_right_56 (fun H locs hP hD hS => ?_)
    have hP : va_P D vwCl [(hd, .inr (0, [.ref f1, .ref f2, .ref al, .ref ar, .ref az, .ref ax, .ref ay, .int (nI nl), .int (nI nr)])), (ar, .inl (cI, 256, .inl (upd (upd (upd f nr (nt_num p1)) (nr + 1) (nt_num p2)) (nr + 2) (nt_num p3))))] H := hP
    have hD : va_D A [(hd, .inr (0, [.ref f1, .ref f2, .ref al, .ref ar, .ref az, .ref ax, .ref ay, .int (nI nl), .int (nI nr)])), (ar, .inl (cI, 256, .inl (upd (upd (upd f nr (nt_num p1)) (nr + 1) (nt_num p2)) (nr + 2) (nt_num p3))))] := hD
    refine lv_aload_n hx hb dX0_right_57 rfl (lv_at hl 0 rfl) ?_
    refine va_get (D := D) (ci := 0) (v := .ref ar) (C := RX0) (T := TX0) (N := 9) hx hb hts in_X0 hown hK hP 0 rfl rfl 3 (by decide) (hts _ q42) (fun _ h9 => h9) rfl dX0_right_58 ?_
    refine lv_aload_n hx hb dX0_right_61 rfl (lv_at hl 0 rfl) ?_
    refine va_get (D := D) (ci := 0) (v := .int (nI nr)) (C := RX0) (T := TX0) (N := 9) hx hb hts in_X0 hown hK hP 0 rfl rfl 8 (by decide) (hts _ q47) (fun _ h9 => h9) rfl dX0_right_62 ?_
    refine lv_iconst (v := nI 3) hx hb dX0_right_65 (by decide) ?_
    refine k_iadd hx hb dX0_right_66  ?_
    refine lv_iload hx hb dX0_right_67 (lv_at hl 4 rfl) ?_
    refine k_cSi (own := RX0) (wr := [(hd, .inr (0, [.ref f1, .ref f2, .ref al, .ref ar, .ref az, .ref ax, .ref ay, .int (nI nl), .int (nI nr)])), (ar, .inl (cI, 256, .inl (upd (upd (upd f nr (nt_num p1)) (nr + 1) (nt_num p2)) (nr + 2) (nt_num p3))))]) (wo := fun u => [(hd, .inr (0, [.ref f1, .ref f2, .ref al, .ref ar, .ref az, .ref ax, .ref ay, .int (nI nl), .int (nI nr)])), (ar, .inl (cI, 256, .inl (upd (upd (upd f nr (nt_num p1)) (nr + 1) (nt_num p2)) (nr + 2) (nt_num p3))))]) C rfl (m_number l D p4) (va_cwS 1 hts (lw_S q72 q73 q8 q74) rfl rfl rfl (by decide +kernel) ⟨Nat.le_of_ble_eq_true rfl, Nat.le_of_ble_eq_true rfl⟩) hK hP hD hS hA [] rfl [] [0, 1] rfl (by decide) rfl (by decide) (by decide) [0, 1] (fun _ => rfl) (by decide) rfl hl.1 rfl (Nat.le_of_ble_eq_true rfl) dX0_right_69 ⟨Nat.zero_le _, Nat.zero_le _⟩ (fun v3 u H locs e3 hP hD hS => ?_)
    have hP : va_P D vwCl [(hd, .inr (0, [.ref f1, .ref f2, .ref al, .ref ar, .ref az, .ref ax, .ref ay, .int (nI nl), .int (nI nr)])), (ar, .inl (cI, 256, .inl (upd (upd (upd f nr (nt_num p1)) (nr + 1) (nt_num p2)) (nr + 2) (nt_num p3))))] H := hP
    have hD : va_D A [(hd, .inr (0, [.ref f1, .ref f2, .ref al, .ref ar, .ref az, .ref ax, .ref ay, .int (nI nl), .int (nI nr)])), (ar, .inl (cI, 256, .inl (upd (upd (upd f nr (nt_num p1)) (nr + 1) (nt_num p2)) (nr + 2) (nt_num p3))))] := hD
    refine k_ti (nt_num p4) e3 ?_
    refine k_iast hx hb hK hP hD hS 1 0 rfl rfl (by omega) (by decide) dX0_right_72 (fun H locs hP hD hS => ?_)
    have hP : va_P D vwCl [(hd, .inr (0, [.ref f1, .ref f2, .ref al, .ref ar, .ref az, .ref ax, .ref ay, .int (nI nl), .int (nI nr)])), (ar, .inl (cI, 256, .inl (upd (upd (upd (upd f nr (nt_num p1)) (nr + 1) (nt_num p2)) (nr + 2) (nt_num p3)) (nr + 3) (nt_num p4))))] H := hP
    have hD : va_D A [(hd, .inr (0, [.ref f1, .ref f2, .ref al, .ref ar, .ref az, .ref ax, .ref ay, .int (nI nl), .int (nI nr)])), (ar, .inl (cI, 256, .inl (upd (upd (upd (upd f nr (nt_num p1)) (nr + 1) (nt_num p2)) (nr + 2) (nt_num p3)) (nr + 3) (nt_num p4))))] := hD
    refine lv_aload_n hx hb dX0_right_73 rfl (lv_at hl 0 rfl) ?_
    refine lv_dup hx hb dX0_right_74 rfl ?_
    refine va_get (D := D) (ci := 0) (v := .int (nI nr)) (C := RX0) (T := TX0) (N := 9) hx hb hts in_X0 hown hK hP 0 rfl rfl 8 (by decide) (hts _ q47) (fun _ h9 => h9) rfl dX0_right_75 ?_
    refine lv_iconst (v := nI 4) hx hb dX0_right_78 (by decide) ?_
    refine k_iadd hx hb dX0_right_79  ?_
    refine va_put (D := D) (ci := 0) (v := .int (nI (nr + 4))) (ty := .int) (C := RX0) (T := TX0) (N := 9) hx hb hts in_X0 tyX0 tyX0_ok nmX0 hown hK hP hD hS 0 rfl rfl 8 (by decide) (hts _ q47) (fun _ h9 => h9) rfl (by decide +kernel) rfl rfl (Nat.le_of_ble_eq_true rfl) dX0_right_80 (fun H locs hP hD hS => ?_)
    have hP : va_P D vwCl [(hd, .inr (0, [.ref f1, .ref f2, .ref al, .ref ar, .ref az, .ref ax, .ref ay, .int (nI nl), .int (nI (nr + 4))])), (ar, .inl (cI, 256, .inl (upd (upd (upd (upd f nr (nt_num p1)) (nr + 1) (nt_num p2)) (nr + 2) (nt_num p3)) (nr + 3) (nt_num p4))))] H := hP
    have hD : va_D A [(hd, .inr (0, [.ref f1, .ref f2, .ref al, .ref ar, .ref az, .ref ax, .ref ay, .int (nI nl), .int (nI (nr + 4))])), (ar, .inl (cI, 256, .inl (upd (upd (upd (upd f nr (nt_num p1)) (nr + 1) (nt_num p2)) (nr + 2) (nt_num p3)) (nr + 3) (nt_num p4))))] := hD
    refine lv_iconst (v := nI 1) hx hb dX0_right_83 (by decide) ?_
    exact W.zret (v := nI 1) hx hb hr rfl (fun t ht hW => ⟨⟨nI 1, (nt_put4 f nr p1 p2 p3 p4, nr + 4), rfl, ⟨fun _ => ⟨rfl, rfl, rfl⟩, fun h => absurd h (by omega)⟩, by rw [ht]; exact hP, va_K.moved hW.alike hK, hD⟩, hS.F ht⟩) hS.2.2 dX0_right_84
  · refine lv_iconst (v := nI 0) hx hb dX0_right_12 (by decide) ?_
    exact W.zret (v := nI 0) hx hb hr rfl (fun t ht hW => ⟨⟨nI 0, (f, nr), rfl, ⟨fun h => absurd h (by omega), fun _ => ⟨rfl, rfl, rfl⟩⟩, by rw [ht]; exact hP, va_K.moved hW.alike hK, hD⟩, hS.F ht⟩) hS.2.2 dX0_right_13
set_option maxHeartbeats 4000000 in
set_option maxRecDepth 100000 in
/-- wipe(kind) -/
theorem m_wipe (l : Launch) (D : va_G) (hd f1 f2 al ar az ax ay nl nr : Nat) (kd : Int32) : k_Mv l yX0_wipe cX0_wipe 2 rk0 D [.ref hd, .int kd] [(hd, .inr (0, [.ref f1, .ref f2, .ref al, .ref ar, .ref az, .ref ax, .ref ay, .int (nI nl), .int (nI nr)]))] [] (fun u : Nat × Nat => u = if kd &&& nI 1 = 0 then (0, nr) else (nl, 0)) (fun (u : Nat × Nat) => [(hd, .inr (0, [.ref f1, .ref f2, .ref al, .ref ar, .ref az, .ref ax, .ref ay, .int (nI u.1), .int (nI u.2)]))]) (fun _ => []) 0 0 := by
  intro sz
  refine k_met (Qc := fun A => va_Qv (fun u : Nat × Nat => u = if kd &&& nI 1 = 0 then (0, nr) else (nl, 0)) (fun (u : Nat × Nat) t => k_B D A [(hd, .inr (0, [.ref f1, .ref f2, .ref al, .ref ar, .ref az, .ref ax, .ref ay, .int (nI u.1), .int (nI u.2)]))] [] t) A) (by decide) (Nat.le_of_ble_eq_true rfl) ?_
  intro p e s m below meth c A ls C hP hK hD hA hS hl
  obtain ⟨hx, hb, hml, hr, hlocks, hown, hin, hts⟩ := id C
  have hown : s.vm.findClass RX0 = some m.cls := hown
  have hl : lv_has ls 2 [(0, .ref hd), (1, .int kd)] := hl
  refine lv_iload_n hx hb dX0_wipe_0 rfl (lv_at hl 1 rfl) ?_
  refine lv_iconst (v := nI 1) hx hb dX0_wipe_1 (by decide) ?_
  refine lv_iand hx hb dX0_wipe_2 ?_
  refine lv_if_ne (tgt := 14) hx hb dX0_wipe_3 (by decide)  (fun c1 => ?_) (fun c1 => ?_)
  · refine lv_aload_n hx hb dX0_wipe_14 rfl (lv_at hl 0 rfl) ?_
    refine lv_iconst (v := nI 0) hx hb dX0_wipe_15 (by decide) ?_
    refine va_put (D := D) (ci := 0) (v := .int (nI 0)) (ty := .int) (C := RX0) (T := TX0) (N := 9) hx hb hts in_X0 tyX0 tyX0_ok nmX0 hown hK hP hD hS 0 rfl rfl 8 (by decide) (hts _ q47) (fun _ h9 => h9) rfl (by decide +kernel) rfl rfl (Nat.le_of_ble_eq_true rfl) dX0_wipe_16 (fun H locs hP hD hS => ?_)
    have hP : va_P D vwCl [(hd, .inr (0, [.ref f1, .ref f2, .ref al, .ref ar, .ref az, .ref ax, .ref ay, .int (nI nl), .int (nI 0)]))] H := hP
    have hD : va_D A [(hd, .inr (0, [.ref f1, .ref f2, .ref al, .ref ar, .ref az, .ref ax, .ref ay, .int (nI nl), .int (nI 0)]))] := hD
    exact W.vret hx hb hr (fun t ht hW => ⟨⟨(nl, 0), rfl, (if_neg c1).symm, by rw [ht]; exact hP, va_K.moved hW.alike hK, hD⟩, hS.F ht⟩) hS.2.2 dX0_wipe_19
  · refine lv_aload_n hx hb dX0_wipe_6 rfl (lv_at hl 0 rfl) ?_
    refine lv_iconst (v := nI 0) hx hb dX0_wipe_7 (by decide) ?_
    refine va_put (D := D) (ci := 0) (v := .int (nI 0)) (ty := .int) (C := RX0) (T := TX0) (N := 9) hx hb hts in_X0 tyX0 tyX0_ok nmX0 hown hK hP hD hS 0 rfl rfl 7 (by decide) (hts _ q46) (fun _ h9 => h9) rfl (by decide +kernel) rfl rfl (Nat.le_of_ble_eq_true rfl) dX0_wipe_8 (fun H locs hP hD hS => ?_)
    have hP : va_P D vwCl [(hd, .inr (0, [.ref f1, .ref f2, .ref al, .ref ar, .ref az, .ref ax, .ref ay, .int (nI 0), .int (nI nr)]))] H := hP
    have hD : va_D A [(hd, .inr (0, [.ref f1, .ref f2, .ref al, .ref ar, .ref az, .ref ax, .ref ay, .int (nI 0), .int (nI nr)]))] := hD
    refine lv_goto (tgt := 19) hx hb dX0_wipe_11 (by decide) ?_
    exact W.vret hx hb hr (fun t ht hW => ⟨⟨(0, nr), rfl, (if_pos c1).symm, by rw [ht]; exact hP, va_K.moved hW.alike hK, hD⟩, hS.F ht⟩) hS.2.2 dX0_wipe_19
set_option maxHeartbeats 4000000 in
set_option maxRecDepth 100000 in
/-- at(i) -/
theorem m_at (l : Launch) (D : va_G) (hd f1 f2 al ar az ax ay nl nr : Nat) (cJ : ClassId) (F : Nat → Int64) (i : Int32) : k_Ml l yX0_at cX0_at 2 rk0 D [.ref hd, .int i] [(hd, .inr (0, [.ref f1, .ref f2, .ref al, .ref ar, .ref az, .ref ax, .ref ay, .int (nI nl), .int (nI nr)])), (az, .inl (cJ, 512, .inr (.inl F)))] [(cJ, .long)] (fun r (_ : Unit) => r = F (i.toBitVec.toNat % 2 ^ 9)) (fun (_ : Unit) => [(hd, .inr (0, [.ref f1, .ref f2, .ref al, .ref ar, .ref az, .ref ax, .ref ay, .int (nI nl), .int (nI nr)])), (az, .inl (cJ, 512, .inr (.inl F)))]) := by
  intro sz
  refine k_met (Qc := fun A => va_Ql (fun r (_ : Unit) => r = F (i.toBitVec.toNat % 2 ^ 9)) (fun (_ : Unit) t => k_B D A [(hd, .inr (0, [.ref f1, .ref f2, .ref al, .ref ar, .ref az, .ref ax, .ref ay, .int (nI nl), .int (nI nr)])), (az, .inl (cJ, 512, .inr (.inl F)))] [(cJ, .long)] t) A) (by decide) (Nat.le_of_ble_eq_true rfl) ?_
  intro p e s m below meth c A ls C hP hK hD hA hS hl
  obtain ⟨hx, hb, hml, hr, hlocks, hown, hin, hts⟩ := id C
  have hown : s.vm.findClass RX0 = some m.cls := hown
  have hl : lv_has ls 2 [(0, .ref hd), (1, .int i)] := hl
  refine lv_aload_n hx hb dX0_at_0 rfl (lv_at hl 0 rfl) ?_
  refine va_get (D := D) (ci := 0) (v := .ref az) (C := RX0) (T := TX0) (N := 9) hx hb hts in_X0 hown hK hP 0 rfl rfl 4 (by decide) (hts _ q43) (fun _ h9 => h9) rfl dX0_at_1 ?_
  refine lv_iload_n hx hb dX0_at_4 rfl (lv_at hl 1 rfl) ?_
  refine lv_sipush (v := nI 511) hx hb dX0_at_5 (by decide) ?_
  refine lv_iand hx hb dX0_at_8 ?_
  refine k_ti (nI (i.toBitVec.toNat % 2 ^ 9)) (pk_and i 9 (by decide)) ?_
  refine k_lald hx hb hK hP 1 0 rfl rfl (by omega) (by decide) dX0_at_9 ?_
  exact W.lret (v := F (i.toBitVec.toNat % 2 ^ 9)) hx hb hr (fun t ht hW => ⟨⟨F (i.toBitVec.toNat % 2 ^ 9), (), rfl, rfl, by rw [ht]; exact hP, va_K.moved hW.alike hK, hD⟩, hS.F ht⟩) hS.2.2 dX0_at_10
theorem nt_di_ne {d : Bool} {i j : Nat} (hi : i < 256) (hj : j < 256) (h : i ≠ j) : nt_di d i ≠ nt_di d j := by
  unfold nt_di
  split <;> omega
theorem nt_di_lt (d : Bool) {j : Nat} (hj : j < 256) : nt_di d j < 256 := by
  unfold nt_di
  split <;> omega
/-- the row laid up to j: numbers put one by one -/
theorem nt_lay_step {d : Bool} {rf : Nat → Int32} {j : Nat} {F : Nat → Int64} (hj : j < 256) (h : ∀ k, k < 512 → F k = lI (nt_B j (nt_di d) (fun i => (rf i).toInt) k)) :
    ∀ k, k < 512 → vp_updL F (nt_di d j) (lI (rf j).toInt) k = lI (nt_B (j + 1) (nt_di d) (fun i => (rf i).toInt) k) := by
  intro k hk
  rw [nt_B1]
  by_cases e : k = nt_di d j
  · subst e
    rw [pk_uLs, if_pos rfl, nt_B_out (fun i hi => nt_di_ne (by omega) hj (by omega)), Int.zero_add]
  · rw [pk_uLn e, if_neg (fun q => e q.symm), Int.add_zero]
    exact h k hk
set_option maxHeartbeats 4000000 in
set_option maxRecDepth 100000 in
theorem lp_lay1 {p : Program} {l : Launch} {e : Env} {R : Room} {s : State} {m : MethodId} {args : Array Value} {below : List Frame} {meth : Method} {c : Code} {Q : State → Prop} {D : va_G} {cells slots : Nat} {A : Nat → Prop} {hd f1 f2 al ar az ax ay nl nr : Nat} {cI cJ : ClassId} {lf rf : Nat → Int32} {d : Bool} {Xf Yf : Nat → Int64} (C : k_C p s m args meth c yX0_lay cX0_lay 3 none) (hn : nl ≤ 256) (hK : va_K D vwCl [(cI, .int), (cJ, .long)] s)
    (kk : ∀ (X' Y' : Nat → Int64) (H : Heap) (locs : List Loc) (ls : Array Slot), nt_up 512 (fun j => lI (if j < nl then (lf j).toInt else 0)) Xf X' → nt_up 512 (fun _ => lN 0) Yf Y' → va_P D vwCl [(hd, .inr (0, [.ref f1, .ref f2, .ref al, .ref ar, .ref az, .ref ax, .ref ay, .int (nI nl), .int (nI nr)])), (al, .inl (cI, 256, .inl lf)), (ar, .inl (cI, 256, .inl rf)), (ax, .inl (cJ, 512, .inr (.inl X'))), (ay, .inl (cJ, 512, .inr (.inl Y')))] H → va_D A [(hd, .inr (0, [.ref f1, .ref f2, .ref al, .ref ar, .ref az, .ref ax, .ref ay, .int (nI nl), .int (nI nr)])), (al, .inl (cI, 256, .inl lf)), (ar, .inl (cI, 256, .inl rf)), (ax, .inl (cJ, 512, .inr (.inl X'))), (ay, .inl (cJ, 512, .inr (.inl Y')))] → va_S A s.heap H locs → lv_has ls 3 [(0, .ref hd), (1, .int (nI d.toNat))] → W p l e R s m args below meth c H locs cells slots Q (F0 m 47 ls [])) :
    ∀ (N i : Nat) (X' Y' : Nat → Int64) (H : Heap) (locs : List Loc) (ls : Array Slot), 512 < i + N → i ≤ 512 → nt_up i (fun j => lI (if j < nl then (lf j).toInt else 0)) Xf X' → nt_up i (fun _ => lN 0) Yf Y' → va_P D vwCl [(hd, .inr (0, [.ref f1, .ref f2, .ref al, .ref ar, .ref az, .ref ax, .ref ay, .int (nI nl), .int (nI nr)])), (al, .inl (cI, 256, .inl lf)), (ar, .inl (cI, 256, .inl rf)), (ax, .inl (cJ, 512, .inr (.inl X'))), (ay, .inl (cJ, 512, .inr (.inl Y')))] H → va_D A [(hd, .inr (0, [.ref f1, .ref f2, .ref al, .ref ar, .ref az, .ref ax, .ref ay, .int (nI nl), .int (nI nr)])), (al, .inl (cI, 256, .inl lf)), (ar, .inl (cI, 256, .inl rf)), (ax, .inl (cJ, 512, .inr (.inl X'))), (ay, .inl (cJ, 512, .inr (.inl Y')))] → va_S A s.heap H locs → lv_has ls 3 [(0, .ref hd), (1, .int (nI d.toNat)), (2, .int (nI i))] → W p l e R s m args below meth c H locs cells slots Q (F0 m 2 ls []) := by
  obtain ⟨hx, hb, hml, hr, hlocks, hown, hin, hts⟩ := id C
  have hown : s.vm.findClass RX0 = some m.cls := hown
  intro N
  induction N with
  | zero => intro i X' Y' H locs ls h1 h2; exact absurd h1 (by omega)
  | succ N ih =>
    intro i X' Y' H locs ls h1 h2 hU hV hP hD hS hl
    refine lv_iload_n hx hb dX0_lay_2 rfl (lv_at hl 2 rfl) ?_
    refine lv_sipush (v := nI 512) hx hb dX0_lay_3 (by decide) ?_
    refine k_icmp_ge (tgt := 47) hx hb dX0_lay_6 (by decide) (by omega) (by omega) (fun c1 => ?_) (fun c1 => ?_)
    · have e0 : i = 512 := by omega
      rw [e0] at hU hV
      exact kk X' Y' H locs ls hU hV hP hD hS (lv_sub hl [0, 1] rfl)
    · refine lv_aload_n hx hb dX0_lay_9 rfl (lv_at hl 0 rfl) ?_
      refine va_get (D := D) (ci := 0) (v := .ref ax) (C := RX0) (T := TX0) (N := 9) hx hb hts in_X0 hown hK hP 0 rfl rfl 5 (by decide) (hts _ q44) (fun _ h9 => h9) rfl dX0_lay_10 ?_
      refine lv_iload_n hx hb dX0_lay_13 rfl (lv_at hl 2 rfl) ?_
      refine lv_iload_n hx hb dX0_lay_14 rfl (lv_at hl 2 rfl) ?_
      refine lv_aload_n hx hb dX0_lay_15 rfl (lv_at hl 0 rfl) ?_
      refine va_get (D := D) (ci := 0) (v := .int (nI nl)) (C := RX0) (T := TX0) (N := 9) hx hb hts in_X0 hown hK hP 0 rfl rfl 7 (by decide) (hts _ q46) (fun _ h9 => h9) rfl dX0_lay_16 ?_
      refine k_icmp_ge (tgt := 32) hx hb dX0_lay_19 (by decide) (by omega) (by omega) (fun c2 => ?_) (fun c2 => ?_)
      · refine lv_lconst (v := lN 0) hx hb dX0_lay_32 (by decide) ?_
        refine k_tl (lI (if i < nl then (lf i).toInt else 0)) (by rw [if_neg (by omega)]; rfl) ?_
        refine k_last hx hb hK hP hD hS 3 1 rfl rfl (by omega) (by decide) dX0_lay_33 (fun H locs hP hD hS => ?_)
        have hP : va_P D vwCl [(hd, .inr (0, [.ref f1, .ref f2, .ref al, .ref ar, .ref az, .ref ax, .ref ay, .int (nI nl), .int (nI nr)])), (al, .inl (cI, 256, .inl lf)), (ar, .inl (cI, 256, .inl rf)), (ax, .inl (cJ, 512, .inr (.inl (vp_updL X' i (lI (if i < nl then (lf i).toInt else 0)))))), (ay, .inl (cJ, 512, .inr (.inl Y')))] H := hP
        have hD : va_D A [(hd, .inr (0, [.ref f1, .ref f2, .ref al, .ref ar, .ref az, .ref ax, .ref ay, .int (nI nl), .int (nI nr)])), (al, .inl (cI, 256, .inl lf)), (ar, .inl (cI, 256, .inl rf)), (ax, .inl (cJ, 512, .inr (.inl (vp_updL X' i (lI (if i < nl then (lf i).toInt else 0)))))), (ay, .inl (cJ, 512, .inr (.inl Y')))] := hD
        refine lv_aload_n hx hb dX0_lay_34 rfl (lv_at hl 0 rfl) ?_
        refine va_get (D := D) (ci := 0) (v := .ref ay) (C := RX0) (T := TX0) (N := 9) hx hb hts in_X0 hown hK hP 0 rfl rfl 6 (by decide) (hts _ q45) (fun _ h9 => h9) rfl dX0_lay_35 ?_
        refine lv_iload_n hx hb dX0_lay_38 rfl (lv_at hl 2 rfl) ?_
        refine lv_lconst (v := lN 0) hx hb dX0_lay_39 (by decide) ?_
        refine k_last hx hb hK hP hD hS 4 1 rfl rfl (by omega) (by decide) dX0_lay_40 (fun H locs hP hD hS => ?_)
        have hP : va_P D vwCl [(hd, .inr (0, [.ref f1, .ref f2, .ref al, .ref ar, .ref az, .ref ax, .ref ay, .int (nI nl), .int (nI nr)])), (al, .inl (cI, 256, .inl lf)), (ar, .inl (cI, 256, .inl rf)), (ax, .inl (cJ, 512, .inr (.inl (vp_updL X' i (lI (if i < nl then (lf i).toInt else 0)))))), (ay, .inl (cJ, 512, .inr (.inl (vp_updL Y' i (lN 0)))))] H := hP
        have hD : va_D A [(hd, .inr (0, [.ref f1, .ref f2, .ref al, .ref ar, .ref az, .ref ax, .ref ay, .int (nI nl), .int (nI nr)])), (al, .inl (cI, 256, .inl lf)), (ar, .inl (cI, 256, .inl rf)), (ax, .inl (cJ, 512, .inr (.inl (vp_updL X' i (lI (if i < nl then (lf i).toInt else 0)))))), (ay, .inl (cJ, 512, .inr (.inl (vp_updL Y' i (lN 0)))))] := hD
        refine lv_iinc (v := nI (i + 1)) (lv' := [(2, .int (nI (i + 1))), (0, .ref hd), (1, .int (nI d.toNat))]) hx hb dX0_lay_41 hl (k := 2) rfl (k_inc i) (by decide) rfl (fun ls hl => ?_)
        refine lv_goto (tgt := 2) hx hb dX0_lay_44 (by decide) ?_
        exact ih (i + 1) _ _ H locs ls (by omega) (by omega) (nt_up_step hU rfl) (nt_up_step hV rfl) hP hD hS (lv_sub hl [1, 2, 0] rfl)
      · refine lv_aload_n hx hb dX0_lay_22 rfl (lv_at hl 0 rfl) ?_
        refine va_get (D := D) (ci := 0) (v := .ref al) (C := RX0) (T := TX0) (N := 9) hx hb hts in_X0 hown hK hP 0 rfl rfl 2 (by decide) (hts _ q41) (fun _ h9 => h9) rfl dX0_lay_23 ?_
        refine lv_iload_n hx hb dX0_lay_26 rfl (lv_at hl 2 rfl) ?_
        refine k_iald hx hb hK hP 1 0 rfl rfl (by omega) (by decide) dX0_lay_27 ?_
        refine lv_i2l (v := lI (lf i).toInt) hx hb dX0_lay_28 (lI_i2l _) ?_
        refine lv_goto (tgt := 33) hx hb dX0_lay_29 (by decide) ?_
        refine k_tl (lI (if i < nl then (lf i).toInt else 0)) (by rw [if_pos c2]) ?_
        refine k_last hx hb hK hP hD hS 3 1 rfl rfl (by omega) (by decide) dX0_lay_33 (fun H locs hP hD hS => ?_)
        have hP : va_P D vwCl [(hd, .inr (0, [.ref f1, .ref f2, .ref al, .ref ar, .ref az, .ref ax, .ref ay, .int (nI nl), .int (nI nr)])), (al, .inl (cI, 256, .inl lf)), (ar, .inl (cI, 256, .inl rf)), (ax, .inl (cJ, 512, .inr (.inl (vp_updL X' i (lI (if i < nl then (lf i).toInt else 0)))))), (ay, .inl (cJ, 512, .inr (.inl Y')))] H := hP
        have hD : va_D A [(hd, .inr (0, [.ref f1, .ref f2, .ref al, .ref ar, .ref az, .ref ax, .ref ay, .int (nI nl), .int (nI nr)])), (al, .inl (cI, 256, .inl lf)), (ar, .inl (cI, 256, .inl rf)), (ax, .inl (cJ, 512, .inr (.inl (vp_updL X' i (lI (if i < nl then (lf i).toInt else 0)))))), (ay, .inl (cJ, 512, .inr (.inl Y')))] := hD
        refine lv_aload_n hx hb dX0_lay_34 rfl (lv_at hl 0 rfl) ?_
        refine va_get (D := D) (ci := 0) (v := .ref ay) (C := RX0) (T := TX0) (N := 9) hx hb hts in_X0 hown hK hP 0 rfl rfl 6 (by decide) (hts _ q45) (fun _ h9 => h9) rfl dX0_lay_35 ?_
        refine lv_iload_n hx hb dX0_lay_38 rfl (lv_at hl 2 rfl) ?_
        refine lv_lconst (v := lN 0) hx hb dX0_lay_39 (by decide) ?_
        refine k_last hx hb hK hP hD hS 4 1 rfl rfl (by omega) (by decide) dX0_lay_40 (fun H locs hP hD hS => ?_)
        have hP : va_P D vwCl [(hd, .inr (0, [.ref f1, .ref f2, .ref al, .ref ar, .ref az, .ref ax, .ref ay, .int (nI nl), .int (nI nr)])), (al, .inl (cI, 256, .inl lf)), (ar, .inl (cI, 256, .inl rf)), (ax, .inl (cJ, 512, .inr (.inl (vp_updL X' i (lI (if i < nl then (lf i).toInt else 0)))))), (ay, .inl (cJ, 512, .inr (.inl (vp_updL Y' i (lN 0)))))] H := hP
        have hD : va_D A [(hd, .inr (0, [.ref f1, .ref f2, .ref al, .ref ar, .ref az, .ref ax, .ref ay, .int (nI nl), .int (nI nr)])), (al, .inl (cI, 256, .inl lf)), (ar, .inl (cI, 256, .inl rf)), (ax, .inl (cJ, 512, .inr (.inl (vp_updL X' i (lI (if i < nl then (lf i).toInt else 0)))))), (ay, .inl (cJ, 512, .inr (.inl (vp_updL Y' i (lN 0)))))] := hD
        refine lv_iinc (v := nI (i + 1)) (lv' := [(2, .int (nI (i + 1))), (0, .ref hd), (1, .int (nI d.toNat))]) hx hb dX0_lay_41 hl (k := 2) rfl (k_inc i) (by decide) rfl (fun ls hl => ?_)
        refine lv_goto (tgt := 2) hx hb dX0_lay_44 (by decide) ?_
        exact ih (i + 1) _ _ H locs ls (by omega) (by omega) (nt_up_step hU rfl) (nt_up_step hV rfl) hP hD hS (lv_sub hl [1, 2, 0] rfl)
set_option maxHeartbeats 4000000 in
set_option maxRecDepth 100000 in
theorem lp_lay2 {p : Program} {l : Launch} {e : Env} {R : Room} {s : State} {m : MethodId} {args : Array Value} {below : List Frame} {meth : Method} {c : Code} {Q : State → Prop} {D : va_G} {cells slots : Nat} {A : Nat → Prop} {hd f1 f2 al ar az ax ay nl nr : Nat} {cI cJ : ClassId} {lf rf : Nat → Int32} {d : Bool} {Xf : Nat → Int64} (C : k_C p s m args meth c yX0_lay cX0_lay 3 none) (hn : nr ≤ 256) (hK : va_K D vwCl [(cI, .int), (cJ, .long)] s)
    (kk : ∀ (Y' : Nat → Int64) (H : Heap) (locs : List Loc) (ls : Array Slot), (∀ k, k < 512 → Y' k = lI (nt_B nr (nt_di d) (fun i => (rf i).toInt) k)) → va_P D vwCl [(hd, .inr (0, [.ref f1, .ref f2, .ref al, .ref ar, .ref az, .ref ax, .ref ay, .int (nI nl), .int (nI nr)])), (al, .inl (cI, 256, .inl lf)), (ar, .inl (cI, 256, .inl rf)), (ax, .inl (cJ, 512, .inr (.inl Xf))), (ay, .inl (cJ, 512, .inr (.inl Y')))] H → va_D A [(hd, .inr (0, [.ref f1, .ref f2, .ref al, .ref ar, .ref az, .ref ax, .ref ay, .int (nI nl), .int (nI nr)])), (al, .inl (cI, 256, .inl lf)), (ar, .inl (cI, 256, .inl rf)), (ax, .inl (cJ, 512, .inr (.inl Xf))), (ay, .inl (cJ, 512, .inr (.inl Y')))] → va_S A s.heap H locs → W p l e R s m args below meth c H locs cells slots Q (F0 m 88 ls [])) :
    ∀ (N i : Nat) (Y' : Nat → Int64) (H : Heap) (locs : List Loc) (ls : Array Slot), nr < i + N → i ≤ nr → (∀ k, k < 512 → Y' k = lI (nt_B i (nt_di d) (fun i => (rf i).toInt) k)) → va_P D vwCl [(hd, .inr (0, [.ref f1, .ref f2, .ref al, .ref ar, .ref az, .ref ax, .ref ay, .int (nI nl), .int (nI nr)])), (al, .inl (cI, 256, .inl lf)), (ar, .inl (cI, 256, .inl rf)), (ax, .inl (cJ, 512, .inr (.inl Xf))), (ay, .inl (cJ, 512, .inr (.inl Y')))] H → va_D A [(hd, .inr (0, [.ref f1, .ref f2, .ref al, .ref ar, .ref az, .ref ax, .ref ay, .int (nI nl), .int (nI nr)])), (al, .inl (cI, 256, .inl lf)), (ar, .inl (cI, 256, .inl rf)), (ax, .inl (cJ, 512, .inr (.inl Xf))), (ay, .inl (cJ, 512, .inr (.inl Y')))] → va_S A s.heap H locs → lv_has ls 3 [(0, .ref hd), (1, .int (nI d.toNat)), (2, .int (nI i))] → W p l e R s m args below meth c H locs cells slots Q (F0 m 49 ls []) := by
  obtain ⟨hx, hb, hml, hr, hlocks, hown, hin, hts⟩ := id C
  have hown : s.vm.findClass RX0 = some m.cls := hown
  have hd1 : d.toNat ≤ 1 := Bool.toNat_le d
  intro N
  induction N with
  | zero => intro i Y' H locs ls h1 h2; exact absurd h1 (by omega)
  | succ N ih =>
    intro i Y' H locs ls h1 h2 hU hP hD hS hl
    refine lv_iload_n hx hb dX0_lay_49 rfl (lv_at hl 2 rfl) ?_
    refine lv_aload_n hx hb dX0_lay_50 rfl (lv_at hl 0 rfl) ?_
    refine va_get (D := D) (ci := 0) (v := .int (nI nr)) (C := RX0) (T := TX0) (N := 9) hx hb hts in_X0 hown hK hP 0 rfl rfl 8 (by decide) (hts _ q47) (fun _ h9 => h9) rfl dX0_lay_51 ?_
    refine k_icmp_ge (tgt := 88) hx hb dX0_lay_54 (by decide) (by omega) (by omega) (fun c1 => ?_) (fun c1 => ?_)
    · have e0 : i = nr := by omega
      rw [e0] at hU
      exact kk Y' H locs ls hU hP hD hS
    · have hdl := nt_di_lt d (j := i) (by omega)
      have hst := nt_lay_step (by omega) hU
      refine lv_aload_n hx hb dX0_lay_57 rfl (lv_at hl 0 rfl) ?_
      refine va_get (D := D) (ci := 0) (v := .ref ay) (C := RX0) (T := TX0) (N := 9) hx hb hts in_X0 hown hK hP 0 rfl rfl 6 (by decide) (hts _ q45) (fun _ h9 => h9) rfl dX0_lay_58 ?_
      refine lv_iload_n hx hb dX0_lay_61 rfl (lv_at hl 1 rfl) ?_
      refine k_if_eq (tgt := 73) hx hb dX0_lay_62 (by decide) (by omega) (fun c2 => ?_) (fun c2 => ?_)
      · have e5 : d = false := by cases d with | false => rfl | true => exact absurd c2 (by decide)
        refine lv_iload_n hx hb dX0_lay_73 rfl (lv_at hl 2 rfl) ?_
        refine k_ti (nI (nt_di d i)) (by rw [e5]; rfl) ?_
        refine lv_aload_n hx hb dX0_lay_74 rfl (lv_at hl 0 rfl) ?_
        refine va_get (D := D) (ci := 0) (v := .ref ar) (C := RX0) (T := TX0) (N := 9) hx hb hts in_X0 hown hK hP 0 rfl rfl 3 (by decide) (hts _ q42) (fun _ h9 => h9) rfl dX0_lay_75 ?_
        refine lv_iload_n hx hb dX0_lay_78 rfl (lv_at hl 2 rfl) ?_
        refine k_iald hx hb hK hP 2 0 rfl rfl (by omega) (by decide) dX0_lay_79 ?_
        refine lv_i2l (v := lI (rf i).toInt) hx hb dX0_lay_80 (lI_i2l _) ?_
        refine k_last hx hb hK hP hD hS 4 1 rfl rfl (by omega) (by decide) dX0_lay_81 (fun H locs hP hD hS => ?_)
        have hP : va_P D vwCl [(hd, .inr (0, [.ref f1, .ref f2, .ref al, .ref ar, .ref az, .ref ax, .ref ay, .int (nI nl), .int (nI nr)])), (al, .inl (cI, 256, .inl lf)), (ar, .inl (cI, 256, .inl rf)), (ax, .inl (cJ, 512, .inr (.inl Xf))), (ay, .inl (cJ, 512, .inr (.inl (vp_updL Y' (nt_di d i) (lI (rf i).toInt)))))] H := hP
        have hD : va_D A [(hd, .inr (0, [.ref f1, .ref f2, .ref al, .ref ar, .ref az, .ref ax, .ref ay, .int (nI nl), .int (nI nr)])), (al, .inl (cI, 256, .inl lf)), (ar, .inl (cI, 256, .inl rf)), (ax, .inl (cJ, 512, .inr (.inl Xf))), (ay, .inl (cJ, 512, .inr (.inl (vp_updL Y' (nt_di d i) (lI (rf i).toInt)))))] := hD
        refine lv_iinc (v := nI (i + 1)) (lv' := [(2, .int (nI (i + 1))), (0, .ref hd), (1, .int (nI d.toNat))]) hx hb dX0_lay_82 hl (k := 2) rfl (k_inc i) (by decide) rfl (fun ls hl => ?_)
        refine lv_goto (tgt := 49) hx hb dX0_lay_85 (by decide) ?_
        exact ih (i + 1) _ H locs ls (by omega) (by omega) hst hP hD hS (lv_sub hl [1, 2, 0] rfl)
      · have e5 : d = true := by cases d with | false => exact absurd rfl c2 | true => rfl
        refine lv_sipush (v := nI 255) hx hb dX0_lay_65 (by decide) ?_
        refine lv_iload_n hx hb dX0_lay_68 rfl (lv_at hl 2 rfl) ?_
        refine k_isub hx hb dX0_lay_69 (by omega) ?_
        refine lv_goto (tgt := 74) hx hb dX0_lay_70 (by decide) ?_
        refine k_ti (nI (nt_di d i)) (by rw [e5]; rfl) ?_
        refine lv_aload_n hx hb dX0_lay_74 rfl (lv_at hl 0 rfl) ?_
        refine va_get (D := D) (ci := 0) (v := .ref ar) (C := RX0) (T := TX0) (N := 9) hx hb hts in_X0 hown hK hP 0 rfl rfl 3 (by decide) (hts _ q42) (fun _ h9 => h9) rfl dX0_lay_75 ?_
        refine lv_iload_n hx hb dX0_lay_78 rfl (lv_at hl 2 rfl) ?_
        refine k_iald hx hb hK hP 2 0 rfl rfl (by omega) (by decide) dX0_lay_79 ?_
        refine lv_i2l (v := lI (rf i).toInt) hx hb dX0_lay_80 (lI_i2l _) ?_
        refine k_last hx hb hK hP hD hS 4 1 rfl rfl (by omega) (by decide) dX0_lay_81 (fun H locs hP hD hS => ?_)
        have hP : va_P D vwCl [(hd, .inr (0, [.ref f1, .ref f2, .ref al, .ref ar, .ref az, .ref ax, .ref ay, .int (nI nl), .int (nI nr)])), (al, .inl (cI, 256, .inl lf)), (ar, .inl (cI, 256, .inl rf)), (ax, .inl (cJ, 512, .inr (.inl Xf))), (ay, .inl (cJ, 512, .inr (.inl (vp_updL Y' (nt_di d i) (lI (rf i).toInt)))))] H := hP
        have hD : va_D A [(hd, .inr (0, [.ref f1, .ref f2, .ref al, .ref ar, .ref az, .ref ax, .ref ay, .int (nI nl), .int (nI nr)])), (al, .inl (cI, 256, .inl lf)), (ar, .inl (cI, 256, .inl rf)), (ax, .inl (cJ, 512, .inr (.inl Xf))), (ay, .inl (cJ, 512, .inr (.inl (vp_updL Y' (nt_di d i) (lI (rf i).toInt)))))] := hD
        refine lv_iinc (v := nI (i + 1)) (lv' := [(2, .int (nI (i + 1))), (0, .ref hd), (1, .int (nI d.toNat))]) hx hb dX0_lay_82 hl (k := 2) rfl (k_inc i) (by decide) rfl (fun ls hl => ?_)
        refine lv_goto (tgt := 49) hx hb dX0_lay_85 (by decide) ?_
        exact ih (i + 1) _ H locs ls (by omega) (by omega) hst hP hD hS (lv_sub hl [1, 2, 0] rfl)
set_option maxHeartbeats 4000000 in
set_option maxRecDepth 100000 in
/-- lay(turned): the two rows as they are multiplied -/
theorem m_lay (l : Launch) (D : va_G) (hd f1 f2 al ar az ax ay nl nr : Nat) (cI cJ : ClassId) (lf rf : Nat → Int32) (Xf Yf : Nat → Int64) (d : Bool) (hn1 : nl ≤ 256) (hn2 : nr ≤ 256) : k_Mv l yX0_lay cX0_lay 3 rk0 D [.ref hd, .int (nI d.toNat)] [(hd, .inr (0, [.ref f1, .ref f2, .ref al, .ref ar, .ref az, .ref ax, .ref ay, .int (nI nl), .int (nI nr)])), (al, .inl (cI, 256, .inl lf)), (ar, .inl (cI, 256, .inl rf)), (ax, .inl (cJ, 512, .inr (.inl Xf))), (ay, .inl (cJ, 512, .inr (.inl Yf)))] [(cI, .int), (cJ, .long)] (fun u : (Nat → Int64) × (Nat → Int64) => (∀ k, k < 512 → u.1 k = lI (nt_B nl (fun i => i) (fun i => (lf i).toInt) k)) ∧ ∀ k, k < 512 → u.2 k = lI (nt_B nr (nt_di d) (fun i => (rf i).toInt) k)) (fun (u : (Nat → Int64) × (Nat → Int64)) => [(hd, .inr (0, [.ref f1, .ref f2, .ref al, .ref ar, .ref az, .ref ax, .ref ay, .int (nI nl), .int (nI nr)])), (al, .inl (cI, 256, .inl lf)), (ar, .inl (cI, 256, .inl rf)), (ax, .inl (cJ, 512, .inr (.inl u.1))), (ay, .inl (cJ, 512, .inr (.inl u.2)))]) (fun _ => [(cI, .int), (cJ, .long)]) 0 0 := by
  intro sz
  refine k_met (Qc := fun A => va_Qv (fun u : (Nat → Int64) × (Nat → Int64) => (∀ k, k < 512 → u.1 k = lI (nt_B nl (fun i => i) (fun i => (lf i).toInt) k)) ∧ ∀ k, k < 512 → u.2 k = lI (nt_B nr (nt_di d) (fun i => (rf i).toInt) k)) (fun (u : (Nat → Int64) × (Nat → Int64)) t => k_B D A [(hd, .inr (0, [.ref f1, .ref f2, .ref al, .ref ar, .ref az, .ref ax, .ref ay, .int (nI nl), .int (nI nr)])), (al, .inl (cI, 256, .inl lf)), (ar, .inl (cI, 256, .inl rf)), (ax, .inl (cJ, 512, .inr (.inl u.1))), (ay, .inl (cJ, 512, .inr (.inl u.2)))] [(cI, .int), (cJ, .long)] t) A) (by decide) (Nat.le_of_ble_eq_true rfl) ?_
  intro p e s m below meth c A ls C hP hK hD hA hS hl
  obtain ⟨hx, hb, hml, hr, hlocks, hown, hin, hts⟩ := id C
  have hown : s.vm.findClass RX0 = some m.cls := hown
  have hl : lv_has ls 3 [(0, .ref hd), (1, .int (nI d.toNat))] := hl
  refine lv_iconst (v := nI 0) hx hb dX0_lay_0 (by decide) ?_
  refine lv_istore_n (lv' := [(2, .int (nI 0)), (0, .ref hd), (1, .int (nI d.toNat))]) hx hb dX0_lay_1 rfl hl (by decide) rfl (fun ls hl => ?_)
  refine lp_lay1 (d := d) C hn1 hK (fun X' Y' H locs ls hU hV hP hD hS hl => ?_) 513 0 Xf Yf s.heap [] ls (by omega) (Nat.zero_le _) (nt_up_0 _ _) (nt_up_0 _ _) hP hD hS (lv_sub hl [1, 2, 0] rfl)
  refine lv_iconst (v := nI 0) hx hb dX0_lay_47 (by decide) ?_
  refine lv_istore_n (lv' := [(2, .int (nI 0)), (0, .ref hd), (1, .int (nI d.toNat))]) hx hb dX0_lay_48 rfl hl (by decide) rfl (fun ls hl => ?_)
  refine lp_lay2 (d := d) C hn2 hK (fun Y2 H locs ls hW2 hP hD hS => ?_) (nr + 1) 0 Y' H locs ls (by omega) (Nat.zero_le _) (fun k hk => hV.1 k hk) hP hD hS (lv_sub hl [1, 2, 0] rfl)
  exact W.vret hx hb hr (fun t ht hW => ⟨⟨(X', Y2), rfl, ⟨fun k hk => by rw [nt_B_id]; exact hU.1 k hk, hW2⟩, by rw [ht]; exact hP, va_K.moved hW.alike hK, hD⟩, hS.F ht⟩) hS.2.2 dX0_lay_88
end
section
/-! ProductDesk.multiply -/
abbrev rk3 : Room := { frames := 3, cells := 0, slots := 0, locals := 95 }
theorem nt_bk : nt_P * nt_iv nt_Q (nt_P % nt_Q) % nt_Q = 1 := by
  rw [← nt_fiv_eq (by decide)]
  decide +kernel
theorem nt_iv_lt {p v : Nat} (h : 0 < p) : nt_iv p v < p := Nat.mod_lt _ h
theorem nt_bk_ex : ∃ bk, nt_iv nt_Q (nt_P % nt_Q) = bk ∧ nt_P * bk % nt_Q = 1 ∧ bk < nt_Q := ⟨nt_iv nt_Q (nt_P % nt_Q), rfl, nt_bk, nt_iv_lt (by decide)⟩
theorem nt_PQ : nt_P * nt_Q < 2 ^ 62 := by decide
set_option maxHeartbeats 4000000 in
set_option maxRecDepth 100000 in
theorem lp_crt {p : Program} {l : Launch} {e : Env} {s : State} {m : MethodId} {args : Array Value} {below : List Frame} {meth : Method} {c : Code} {Q : State → Prop} {D : va_G} {A : Nat → Prop} {hd f1 f2 al ar az ax ay nl nr : Nat} {a1 b1 a2 b2 b : Nat} {tw : Bool} {cJ : ClassId} {Xf Yf Zf A1 B1 A2 B2 : Nat → Int64} {Z : Nat → Int} {V1 V2 : Nat → Nat} {bk : Nat} (hbk : nt_P * bk % nt_Q = 1) (g3 : bk < nt_Q) (C : k_C p s m args meth c yX0_multiply cX0_multiply 16 none) (hb9 : b ≤ 9) (hA : ∀ q : Nat, s.heap.size ≤ q → A q) (hK : va_K D vwCl [(cJ, .long)] s) (hV1 : ∀ j, j < 2 ^ b → A1 j = lN (V1 j) ∧ V1 j < nt_P) (hV2 : ∀ j, j < 2 ^ b → A2 j = lN (V2 j) ∧ V2 j < nt_Q) (hZ1 : ∀ j, j < 2 ^ b → nt_c nt_P (V1 j) (Z j)) (hZ2 : ∀ j, j < 2 ^ b → nt_c nt_Q (V2 j) (Z j)) (hZb : ∀ j, j < 2 ^ b → -(2 ^ 58) ≤ Z j ∧ Z j ≤ 2 ^ 58)
    (kk : ∀ (Z' : Nat → Int64) (H : Heap) (locs : List Loc) (ls : Array Slot), nt_up 512 (fun j => lI (if j < 2 ^ b then Z j else 0)) Zf Z' → va_P D vwCl [(hd, .inr (0, [.ref f1, .ref f2, .ref al, .ref ar, .ref az, .ref ax, .ref ay, .int (nI nl), .int (nI nr)])), (f1, .inr (1, [.long (lN nt_P), .ref a1, .ref b1])), (f2, .inr (1, [.long (lN nt_Q), .ref a2, .ref b2])), (az, .inl (cJ, 512, .inr (.inl Z'))), (ax, .inl (cJ, 512, .inr (.inl Xf))), (ay, .inl (cJ, 512, .inr (.inl Yf))), (a1, .inl (cJ, 512, .inr (.inl A1))), (b1, .inl (cJ, 512, .inr (.inl B1))), (a2, .inl (cJ, 512, .inr (.inl A2))), (b2, .inl (cJ, 512, .inr (.inl B2)))] H → va_D A [(hd, .inr (0, [.ref f1, .ref f2, .ref al, .ref ar, .ref az, .ref ax, .ref ay, .int (nI nl), .int (nI nr)])), (f1, .inr (1, [.long (lN nt_P), .ref a1, .ref b1])), (f2, .inr (1, [.long (lN nt_Q), .ref a2, .ref b2])), (az, .inl (cJ, 512, .inr (.inl Z'))), (ax, .inl (cJ, 512, .inr (.inl Xf))), (ay, .inl (cJ, 512, .inr (.inl Yf))), (a1, .inl (cJ, 512, .inr (.inl A1))), (b1, .inl (cJ, 512, .inr (.inl B1))), (a2, .inl (cJ, 512, .inr (.inl A2))), (b2, .inl (cJ, 512, .inr (.inl B2)))] → va_S A s.heap H locs → W p l e rk3 s m args below meth c H locs 0 0 Q (F0 m 180 ls [])) :
    ∀ (N i : Nat) (Z' : Nat → Int64) (H : Heap) (locs : List Loc) (ls : Array Slot), 512 < i + N → i ≤ 512 → nt_up i (fun j => lI (if j < 2 ^ b then Z j else 0)) Zf Z' → va_P D vwCl [(hd, .inr (0, [.ref f1, .ref f2, .ref al, .ref ar, .ref az, .ref ax, .ref ay, .int (nI nl), .int (nI nr)])), (f1, .inr (1, [.long (lN nt_P), .ref a1, .ref b1])), (f2, .inr (1, [.long (lN nt_Q), .ref a2, .ref b2])), (az, .inl (cJ, 512, .inr (.inl Z'))), (ax, .inl (cJ, 512, .inr (.inl Xf))), (ay, .inl (cJ, 512, .inr (.inl Yf))), (a1, .inl (cJ, 512, .inr (.inl A1))), (b1, .inl (cJ, 512, .inr (.inl B1))), (a2, .inl (cJ, 512, .inr (.inl A2))), (b2, .inl (cJ, 512, .inr (.inl B2)))] H → va_D A [(hd, .inr (0, [.ref f1, .ref f2, .ref al, .ref ar, .ref az, .ref ax, .ref ay, .int (nI nl), .int (nI nr)])), (f1, .inr (1, [.long (lN nt_P), .ref a1, .ref b1])), (f2, .inr (1, [.long (lN nt_Q), .ref a2, .ref b2])), (az, .inl (cJ, 512, .inr (.inl Z'))), (ax, .inl (cJ, 512, .inr (.inl Xf))), (ay, .inl (cJ, 512, .inr (.inl Yf))), (a1, .inl (cJ, 512, .inr (.inl A1))), (b1, .inl (cJ, 512, .inr (.inl B1))), (a2, .inl (cJ, 512, .inr (.inl A2))), (b2, .inl (cJ, 512, .inr (.inl B2)))] → va_S A s.heap H locs → lv_has ls 16 [(0, .ref hd), (1, .int (nI (2 ^ b))), (2, .int (nI tw.toNat)), (3, .long (lN nt_P)), (5, .long (lN nt_Q)), (7, .long (lN bk)), (9, .int (nI i))] → W p l e rk3 s m args below meth c H locs 0 0 Q (F0 m 67 ls []) := by
  obtain ⟨hx, hb, hml, hr, hlocks, hown, hin, hts⟩ := id C
  have hown : s.vm.findClass RX0 = some m.cls := hown
  have hb2 := nt_2b hb9
  have hPQ := nt_PQ
  have hQ1 : nt_Q < 2 ^ 30 := by decide
  have hQ0 : 0 < nt_Q := by decide
  have hP1 : nt_P < 2 ^ 30 := by decide
  intro N
  induction N with
  | zero => intro i Z' H locs ls h1 h2; exact absurd h1 (by omega)
  | succ N ih =>
    intro i Z' H locs ls h1 h2 hU hP hD hS hl
    refine lv_iload hx hb dX0_multiply_67 (lv_at hl 6 rfl) ?_
    refine lv_sipush (v := nI 512) hx hb dX0_multiply_69 (by decide) ?_
    refine k_icmp_ge (tgt := 180) hx hb dX0_multiply_72 (by decide) (by omega) (by omega) (fun c1 => ?_) (fun c1 => ?_)
    · have e0 : i = 512 := by omega
      rw [e0] at hU
      exact kk Z' H locs ls hU hP hD hS
    · refine lv_iload hx hb dX0_multiply_75 (lv_at hl 6 rfl) ?_
      refine lv_iload_n hx hb dX0_multiply_77 rfl (lv_at hl 1 rfl) ?_
      refine k_icmp_lt (tgt := 92) hx hb dX0_multiply_78 (by decide) (by omega) (by omega) (fun c2 => ?_) (fun c2 => ?_)
      · obtain ⟨x1, x2⟩ := hV1 i c2
        obtain ⟨y1, y2⟩ := hV2 i c2
        obtain ⟨z1, z2⟩ := nt_crt x2 y2 (hZ1 i c2) (hZ2 i c2) (hZb i c2) hbk
        have g1 : V1 i % nt_Q < nt_Q := Nat.mod_lt _ hQ0
        have g2 : (V2 i + nt_Q - V1 i % nt_Q) % nt_Q < nt_Q := Nat.mod_lt _ hQ0
        refine lv_aload_n hx hb dX0_multiply_92 rfl (lv_at hl 0 rfl) ?_
        refine va_get (D := D) (ci := 0) (v := .ref f1) (C := RX0) (T := TX0) (N := 9) hx hb hts in_X0 hown hK hP 0 rfl rfl 0 (by decide) (hts _ q39) (fun _ h9 => h9) rfl dX0_multiply_93 ?_
        refine lv_iload hx hb dX0_multiply_96 (lv_at hl 6 rfl) ?_
        refine k_cVl (own := RX0) (wr := [(hd, .inr (0, [.ref f1, .ref f2, .ref al, .ref ar, .ref az, .ref ax, .ref ay, .int (nI nl), .int (nI nr)])), (f2, .inr (1, [.long (lN nt_Q), .ref a2, .ref b2])), (az, .inl (cJ, 512, .inr (.inl Z'))), (ax, .inl (cJ, 512, .inr (.inl Xf))), (ay, .inl (cJ, 512, .inr (.inl Yf))), (b1, .inl (cJ, 512, .inr (.inl B1))), (a2, .inl (cJ, 512, .inr (.inl A2))), (b2, .inl (cJ, 512, .inr (.inl B2)))]) (wo := fun u => [(hd, .inr (0, [.ref f1, .ref f2, .ref al, .ref ar, .ref az, .ref ax, .ref ay, .int (nI nl), .int (nI nr)])), (f1, .inr (1, [.long (lN nt_P), .ref a1, .ref b1])), (f2, .inr (1, [.long (lN nt_Q), .ref a2, .ref b2])), (az, .inl (cJ, 512, .inr (.inl Z'))), (ax, .inl (cJ, 512, .inr (.inl Xf))), (ay, .inl (cJ, 512, .inr (.inl Yf))), (a1, .inl (cJ, 512, .inr (.inl A1))), (b1, .inl (cJ, 512, .inr (.inl B1))), (a2, .inl (cJ, 512, .inr (.inl A2))), (b2, .inl (cJ, 512, .inr (.inl B2)))]) C rfl (m_rat l D f1 a1 b1 nt_P i cJ A1 c1) (cwV 1 hts (lw_V q129 q130 q131 q9 q132) rfl rfl rfl (by decide +kernel) ⟨Nat.le_of_ble_eq_true rfl, Nat.le_of_ble_eq_true rfl⟩) hK hP hD hS hA 0 1 rfl rfl rfl [0] rfl [1, 6] [0, 2, 3, 4, 5, 7, 8, 9] rfl (by decide) rfl (by decide) (by decide) [0, 8, 1, 2, 3, 4, 9, 5, 6, 7] (fun _ => rfl) (by decide) rfl hl.1 rfl (Nat.le_of_ble_eq_true rfl) dX0_multiply_98 ⟨Nat.zero_le _, Nat.zero_le _⟩ (fun v1 u H locs e1 hP hD hS => ?_)
        have hP : va_P D vwCl [(hd, .inr (0, [.ref f1, .ref f2, .ref al, .ref ar, .ref az, .ref ax, .ref ay, .int (nI nl), .int (nI nr)])), (f1, .inr (1, [.long (lN nt_P), .ref a1, .ref b1])), (f2, .inr (1, [.long (lN nt_Q), .ref a2, .ref b2])), (az, .inl (cJ, 512, .inr (.inl Z'))), (ax, .inl (cJ, 512, .inr (.inl Xf))), (ay, .inl (cJ, 512, .inr (.inl Yf))), (a1, .inl (cJ, 512, .inr (.inl A1))), (b1, .inl (cJ, 512, .inr (.inl B1))), (a2, .inl (cJ, 512, .inr (.inl A2))), (b2, .inl (cJ, 512, .inr (.inl B2)))] H := hP
        have hD : va_D A [(hd, .inr (0, [.ref f1, .ref f2, .ref al, .ref ar, .ref az, .ref ax, .ref ay, .int (nI nl), .int (nI nr)])), (f1, .inr (1, [.long (lN nt_P), .ref a1, .ref b1])), (f2, .inr (1, [.long (lN nt_Q), .ref a2, .ref b2])), (az, .inl (cJ, 512, .inr (.inl Z'))), (ax, .inl (cJ, 512, .inr (.inl Xf))), (ay, .inl (cJ, 512, .inr (.inl Yf))), (a1, .inl (cJ, 512, .inr (.inl A1))), (b1, .inl (cJ, 512, .inr (.inl B1))), (a2, .inl (cJ, 512, .inr (.inl A2))), (b2, .inl (cJ, 512, .inr (.inl B2)))] := hD
        refine k_tl (lN (V1 i)) (e1.trans x1) ?_
        refine lv_lstore (lv' := [(10, .long (lN (V1 i))), (0, .ref hd), (1, .int (nI (2 ^ b))), (2, .int (nI tw.toNat)), (3, .long (lN nt_P)), (5, .long (lN nt_Q)), (7, .long (lN bk)), (9, .int (nI i))]) hx hb dX0_multiply_101 hl (by decide) rfl (fun ls hl => ?_)
        refine lv_aload_n hx hb dX0_multiply_103 rfl (lv_at hl 1 rfl) ?_
        refine va_get (D := D) (ci := 0) (v := .ref f2) (C := RX0) (T := TX0) (N := 9) hx hb hts in_X0 hown hK hP 0 rfl rfl 1 (by decide) (hts _ q40) (fun _ h9 => h9) rfl dX0_multiply_104 ?_
        refine lv_iload hx hb dX0_multiply_107 (lv_at hl 7 rfl) ?_
        refine k_cVl (own := RX0) (wr := [(hd, .inr (0, [.ref f1, .ref f2, .ref al, .ref ar, .ref az, .ref ax, .ref ay, .int (nI nl), .int (nI nr)])), (f1, .inr (1, [.long (lN nt_P), .ref a1, .ref b1])), (az, .inl (cJ, 512, .inr (.inl Z'))), (ax, .inl (cJ, 512, .inr (.inl Xf))), (ay, .inl (cJ, 512, .inr (.inl Yf))), (a1, .inl (cJ, 512, .inr (.inl A1))), (b1, .inl (cJ, 512, .inr (.inl B1))), (b2, .inl (cJ, 512, .inr (.inl B2)))]) (wo := fun u => [(hd, .inr (0, [.ref f1, .ref f2, .ref al, .ref ar, .ref az, .ref ax, .ref ay, .int (nI nl), .int (nI nr)])), (f1, .inr (1, [.long (lN nt_P), .ref a1, .ref b1])), (f2, .inr (1, [.long (lN nt_Q), .ref a2, .ref b2])), (az, .inl (cJ, 512, .inr (.inl Z'))), (ax, .inl (cJ, 512, .inr (.inl Xf))), (ay, .inl (cJ, 512, .inr (.inl Yf))), (a1, .inl (cJ, 512, .inr (.inl A1))), (b1, .inl (cJ, 512, .inr (.inl B1))), (a2, .inl (cJ, 512, .inr (.inl A2))), (b2, .inl (cJ, 512, .inr (.inl B2)))]) C rfl (m_rat l D f2 a2 b2 nt_Q i cJ A2 c1) (cwV 1 hts (lw_V q129 q130 q131 q9 q132) rfl rfl rfl (by decide +kernel) ⟨Nat.le_of_ble_eq_true rfl, Nat.le_of_ble_eq_true rfl⟩) hK hP hD hS hA 0 1 rfl rfl rfl [0] rfl [2, 8] [0, 1, 3, 4, 5, 6, 7, 9] rfl (by decide) rfl (by decide) (by decide) [0, 1, 8, 2, 3, 4, 5, 6, 9, 7] (fun _ => rfl) (by decide) rfl hl.1 rfl (Nat.le_of_ble_eq_true rfl) dX0_multiply_109 ⟨Nat.zero_le _, Nat.zero_le _⟩ (fun v2 u H locs e2 hP hD hS => ?_)
        have hP : va_P D vwCl [(hd, .inr (0, [.ref f1, .ref f2, .ref al, .ref ar, .ref az, .ref ax, .ref ay, .int (nI nl), .int (nI nr)])), (f1, .inr (1, [.long (lN nt_P), .ref a1, .ref b1])), (f2, .inr (1, [.long (lN nt_Q), .ref a2, .ref b2])), (az, .inl (cJ, 512, .inr (.inl Z'))), (ax, .inl (cJ, 512, .inr (.inl Xf))), (ay, .inl (cJ, 512, .inr (.inl Yf))), (a1, .inl (cJ, 512, .inr (.inl A1))), (b1, .inl (cJ, 512, .inr (.inl B1))), (a2, .inl (cJ, 512, .inr (.inl A2))), (b2, .inl (cJ, 512, .inr (.inl B2)))] H := hP
        have hD : va_D A [(hd, .inr (0, [.ref f1, .ref f2, .ref al, .ref ar, .ref az, .ref ax, .ref ay, .int (nI nl), .int (nI nr)])), (f1, .inr (1, [.long (lN nt_P), .ref a1, .ref b1])), (f2, .inr (1, [.long (lN nt_Q), .ref a2, .ref b2])), (az, .inl (cJ, 512, .inr (.inl Z'))), (ax, .inl (cJ, 512, .inr (.inl Xf))), (ay, .inl (cJ, 512, .inr (.inl Yf))), (a1, .inl (cJ, 512, .inr (.inl A1))), (b1, .inl (cJ, 512, .inr (.inl B1))), (a2, .inl (cJ, 512, .inr (.inl A2))), (b2, .inl (cJ, 512, .inr (.inl B2)))] := hD
        refine k_tl (lN (V2 i)) (e2.trans y1) ?_
        refine lv_lload hx hb dX0_multiply_112 (lv_at hl 0 rfl) ?_
        refine lv_lload hx hb dX0_multiply_114 (lv_at hl 5 rfl) ?_
        refine k_lrem hx hb dX0_multiply_116 (by omega) hQ0 (by omega) ?_
        refine lv_lsub hx hb dX0_multiply_117  ?_
        refine lv_lload hx hb dX0_multiply_118 (lv_at hl 5 rfl) ?_
        refine lv_ladd hx hb dX0_multiply_120  ?_
        refine k_tl (lN (V2 i + nt_Q - V1 i % nt_Q)) (k_lsa (by omega)) ?_
        refine lv_lload hx hb dX0_multiply_121 (lv_at hl 5 rfl) ?_
        refine k_lrem hx hb dX0_multiply_123 (by omega) hQ0 (by omega) ?_
        refine lv_lload hx hb dX0_multiply_124 (lv_at hl 6 rfl) ?_
        refine k_lmul hx hb dX0_multiply_126  ?_
        refine lv_lload hx hb dX0_multiply_127 (lv_at hl 5 rfl) ?_
        refine k_lrem hx hb dX0_multiply_129 (k_mb g2 g3 hQ1) hQ0 (by omega) ?_
        refine lv_lstore (lv' := [(12, .long (lN ((((V2 i + nt_Q - V1 i % nt_Q) % nt_Q) * bk) % nt_Q))), (10, .long (lN (V1 i))), (0, .ref hd), (1, .int (nI (2 ^ b))), (2, .int (nI tw.toNat)), (3, .long (lN nt_P)), (5, .long (lN nt_Q)), (7, .long (lN bk)), (9, .int (nI i))]) hx hb dX0_multiply_130 hl (by decide) rfl (fun ls hl => ?_)
        refine lv_lload hx hb dX0_multiply_132 (lv_at hl 1 rfl) ?_
        refine lv_lload_n hx hb dX0_multiply_134 rfl (lv_at hl 5 rfl) ?_
        refine lv_lload hx hb dX0_multiply_135 (lv_at hl 0 rfl) ?_
        refine k_lmul hx hb dX0_multiply_137  ?_
        refine k_ladd hx hb dX0_multiply_138  ?_
        refine lv_lstore (lv' := [(14, .long (lN ((V1 i) + (nt_P * ((((V2 i + nt_Q - V1 i % nt_Q) % nt_Q) * bk) % nt_Q))))), (12, .long (lN ((((V2 i + nt_Q - V1 i % nt_Q) % nt_Q) * bk) % nt_Q))), (10, .long (lN (V1 i))), (0, .ref hd), (1, .int (nI (2 ^ b))), (2, .int (nI tw.toNat)), (3, .long (lN nt_P)), (5, .long (lN nt_Q)), (7, .long (lN bk)), (9, .int (nI i))]) hx hb dX0_multiply_139 hl (by decide) rfl (fun ls hl => ?_)
        refine lv_aload_n hx hb dX0_multiply_141 rfl (lv_at hl 3 rfl) ?_
        refine va_get (D := D) (ci := 0) (v := .ref az) (C := RX0) (T := TX0) (N := 9) hx hb hts in_X0 hown hK hP 0 rfl rfl 4 (by decide) (hts _ q43) (fun _ h9 => h9) rfl dX0_multiply_142 ?_
        refine lv_iload hx hb dX0_multiply_145 (lv_at hl 9 rfl) ?_
        refine lv_lload hx hb dX0_multiply_147 (lv_at hl 0 rfl) ?_
        refine lv_lload_n hx hb dX0_multiply_149 rfl (lv_at hl 6 rfl) ?_
        refine lv_lload hx hb dX0_multiply_150 (lv_at hl 7 rfl) ?_
        refine k_lmul hx hb dX0_multiply_152  ?_
        refine lv_ldc2 hx hb hown (hts _ q133) dX0_multiply_153 ?_
        refine k_tl (lN 2) rfl ?_
        refine k_ldiv hx hb dX0_multiply_156 (by omega) (by omega) (by omega) ?_
        refine W.lcmp hx hb dX0_multiply_157 ?_
        refine lv_if_le (tgt := 171) hx hb dX0_multiply_158 (by decide)  (fun c3 => ?_) (fun c3 => ?_)
        · have c4 := (pk_lLE (by omega) (by omega)).mp ((lg_cmp_le _ _).mp c3)
          rw [if_neg (by omega)] at z2
          refine lv_lload hx hb dX0_multiply_171 (lv_at hl 0 rfl) ?_
          refine k_tl (lI (if i < 2 ^ b then Z i else 0)) (by rw [if_pos c2, ← z2, lI_nat]) ?_
          refine k_last hx hb hK hP hD hS 3 0 rfl rfl (by omega) (by decide) dX0_multiply_173 (fun H locs hP hD hS => ?_)
          have hP : va_P D vwCl [(hd, .inr (0, [.ref f1, .ref f2, .ref al, .ref ar, .ref az, .ref ax, .ref ay, .int (nI nl), .int (nI nr)])), (f1, .inr (1, [.long (lN nt_P), .ref a1, .ref b1])), (f2, .inr (1, [.long (lN nt_Q), .ref a2, .ref b2])), (az, .inl (cJ, 512, .inr (.inl (vp_updL Z' i (lI (if i < 2 ^ b then Z i else 0)))))), (ax, .inl (cJ, 512, .inr (.inl Xf))), (ay, .inl (cJ, 512, .inr (.inl Yf))), (a1, .inl (cJ, 512, .inr (.inl A1))), (b1, .inl (cJ, 512, .inr (.inl B1))), (a2, .inl (cJ, 512, .inr (.inl A2))), (b2, .inl (cJ, 512, .inr (.inl B2)))] H := hP
          have hD : va_D A [(hd, .inr (0, [.ref f1, .ref f2, .ref al, .ref ar, .ref az, .ref ax, .ref ay, .int (nI nl), .int (nI nr)])), (f1, .inr (1, [.long (lN nt_P), .ref a1, .ref b1])), (f2, .inr (1, [.long (lN nt_Q), .ref a2, .ref b2])), (az, .inl (cJ, 512, .inr (.inl (vp_updL Z' i (lI (if i < 2 ^ b then Z i else 0)))))), (ax, .inl (cJ, 512, .inr (.inl Xf))), (ay, .inl (cJ, 512, .inr (.inl Yf))), (a1, .inl (cJ, 512, .inr (.inl A1))), (b1, .inl (cJ, 512, .inr (.inl B1))), (a2, .inl (cJ, 512, .inr (.inl A2))), (b2, .inl (cJ, 512, .inr (.inl B2)))] := hD
          refine lv_iinc (v := nI (i + 1)) (lv' := [(9, .int (nI (i + 1))), (14, .long (lN ((V1 i) + (nt_P * ((((V2 i + nt_Q - V1 i % nt_Q) % nt_Q) * bk) % nt_Q))))), (12, .long (lN ((((V2 i + nt_Q - V1 i % nt_Q) % nt_Q) * bk) % nt_Q))), (10, .long (lN (V1 i))), (0, .ref hd), (1, .int (nI (2 ^ b))), (2, .int (nI tw.toNat)), (3, .long (lN nt_P)), (5, .long (lN nt_Q)), (7, .long (lN bk))]) hx hb dX0_multiply_174 hl (k := 9) rfl (k_inc i) (by decide) rfl (fun ls hl => ?_)
          refine lv_goto (tgt := 67) hx hb dX0_multiply_177 (by decide) ?_
          exact ih (i + 1) _ H locs ls (by omega) (by omega) (nt_up_step hU rfl) hP hD hS (lv_sub hl [4, 5, 6, 7, 8, 9, 0] rfl)
        · have c4 : ¬ (V1 i + nt_P * ((V2 i + nt_Q - V1 i % nt_Q) % nt_Q * bk % nt_Q)) ≤ nt_P * nt_Q / 2 := fun h => c3 ((lg_cmp_le _ _).mpr ((pk_lLE (by omega) (by omega)).mpr h))
          rw [if_pos (by omega)] at z2
          refine lv_lload hx hb dX0_multiply_161 (lv_at hl 0 rfl) ?_
          refine lv_lload_n hx hb dX0_multiply_163 rfl (lv_at hl 6 rfl) ?_
          refine lv_lload hx hb dX0_multiply_164 (lv_at hl 7 rfl) ?_
          refine k_lmul hx hb dX0_multiply_166  ?_
          refine lv_lsub hx hb dX0_multiply_167  ?_
          refine lv_goto (tgt := 173) hx hb dX0_multiply_168 (by decide) ?_
          refine k_tl (lI (if i < 2 ^ b then Z i else 0)) (by rw [if_pos c2, ← z2, lI_nat, lI_nat, lI_sub]) ?_
          refine k_last hx hb hK hP hD hS 3 0 rfl rfl (by omega) (by decide) dX0_multiply_173 (fun H locs hP hD hS => ?_)
          have hP : va_P D vwCl [(hd, .inr (0, [.ref f1, .ref f2, .ref al, .ref ar, .ref az, .ref ax, .ref ay, .int (nI nl), .int (nI nr)])), (f1, .inr (1, [.long (lN nt_P), .ref a1, .ref b1])), (f2, .inr (1, [.long (lN nt_Q), .ref a2, .ref b2])), (az, .inl (cJ, 512, .inr (.inl (vp_updL Z' i (lI (if i < 2 ^ b then Z i else 0)))))), (ax, .inl (cJ, 512, .inr (.inl Xf))), (ay, .inl (cJ, 512, .inr (.inl Yf))), (a1, .inl (cJ, 512, .inr (.inl A1))), (b1, .inl (cJ, 512, .inr (.inl B1))), (a2, .inl (cJ, 512, .inr (.inl A2))), (b2, .inl (cJ, 512, .inr (.inl B2)))] H := hP
          have hD : va_D A [(hd, .inr (0, [.ref f1, .ref f2, .ref al, .ref ar, .ref az, .ref ax, .ref ay, .int (nI nl), .int (nI nr)])), (f1, .inr (1, [.long (lN nt_P), .ref a1, .ref b1])), (f2, .inr (1, [.long (lN nt_Q), .ref a2, .ref b2])), (az, .inl (cJ, 512, .inr (.inl (vp_updL Z' i (lI (if i < 2 ^ b then Z i else 0)))))), (ax, .inl (cJ, 512, .inr (.inl Xf))), (ay, .inl (cJ, 512, .inr (.inl Yf))), (a1, .inl (cJ, 512, .inr (.inl A1))), (b1, .inl (cJ, 512, .inr (.inl B1))), (a2, .inl (cJ, 512, .inr (.inl A2))), (b2, .inl (cJ, 512, .inr (.inl B2)))] := hD
          refine lv_iinc (v := nI (i + 1)) (lv' := [(9, .int (nI (i + 1))), (14, .long (lN ((V1 i) + (nt_P * ((((V2 i + nt_Q - V1 i % nt_Q) % nt_Q) * bk) % nt_Q))))), (12, .long (lN ((((V2 i + nt_Q - V1 i % nt_Q) % nt_Q) * bk) % nt_Q))), (10, .long (lN (V1 i))), (0, .ref hd), (1, .int (nI (2 ^ b))), (2, .int (nI tw.toNat)), (3, .long (lN nt_P)), (5, .long (lN nt_Q)), (7, .long (lN bk))]) hx hb dX0_multiply_174 hl (k := 9) rfl (k_inc i) (by decide) rfl (fun ls hl => ?_)
          refine lv_goto (tgt := 67) hx hb dX0_multiply_177 (by decide) ?_
          exact ih (i + 1) _ H locs ls (by omega) (by omega) (nt_up_step hU rfl) hP hD hS (lv_sub hl [4, 5, 6, 7, 8, 9, 0] rfl)
      · refine lv_aload_n hx hb dX0_multiply_81 rfl (lv_at hl 0 rfl) ?_
        refine va_get (D := D) (ci := 0) (v := .ref az) (C := RX0) (T := TX0) (N := 9) hx hb hts in_X0 hown hK hP 0 rfl rfl 4 (by decide) (hts _ q43) (fun _ h9 => h9) rfl dX0_multiply_82 ?_
        refine lv_iload hx hb dX0_multiply_85 (lv_at hl 6 rfl) ?_
        refine lv_lconst (v := lN 0) hx hb dX0_multiply_87 (by decide) ?_
        refine k_tl (lI (if i < 2 ^ b then Z i else 0)) (by rw [if_neg (by omega)]; rfl) ?_
        refine k_last hx hb hK hP hD hS 3 0 rfl rfl (by omega) (by decide) dX0_multiply_88 (fun H locs hP hD hS => ?_)
        have hP : va_P D vwCl [(hd, .inr (0, [.ref f1, .ref f2, .ref al, .ref ar, .ref az, .ref ax, .ref ay, .int (nI nl), .int (nI nr)])), (f1, .inr (1, [.long (lN nt_P), .ref a1, .ref b1])), (f2, .inr (1, [.long (lN nt_Q), .ref a2, .ref b2])), (az, .inl (cJ, 512, .inr (.inl (vp_updL Z' i (lI (if i < 2 ^ b then Z i else 0)))))), (ax, .inl (cJ, 512, .inr (.inl Xf))), (ay, .inl (cJ, 512, .inr (.inl Yf))), (a1, .inl (cJ, 512, .inr (.inl A1))), (b1, .inl (cJ, 512, .inr (.inl B1))), (a2, .inl (cJ, 512, .inr (.inl A2))), (b2, .inl (cJ, 512, .inr (.inl B2)))] H := hP
        have hD : va_D A [(hd, .inr (0, [.ref f1, .ref f2, .ref al, .ref ar, .ref az, .ref ax, .ref ay, .int (nI nl), .int (nI nr)])), (f1, .inr (1, [.long (lN nt_P), .ref a1, .ref b1])), (f2, .inr (1, [.long (lN nt_Q), .ref a2, .ref b2])), (az, .inl (cJ, 512, .inr (.inl (vp_updL Z' i (lI (if i < 2 ^ b then Z i else 0)))))), (ax, .inl (cJ, 512, .inr (.inl Xf))), (ay, .inl (cJ, 512, .inr (.inl Yf))), (a1, .inl (cJ, 512, .inr (.inl A1))), (b1, .inl (cJ, 512, .inr (.inl B1))), (a2, .inl (cJ, 512, .inr (.inl A2))), (b2, .inl (cJ, 512, .inr (.inl B2)))] := hD
        refine lv_goto (tgt := 174) hx hb dX0_multiply_89 (by decide) ?_
        refine lv_iinc (v := nI (i + 1)) (lv' := [(9, .int (nI (i + 1))), (0, .ref hd), (1, .int (nI (2 ^ b))), (2, .int (nI tw.toNat)), (3, .long (lN nt_P)), (5, .long (lN nt_Q)), (7, .long (lN bk))]) hx hb dX0_multiply_174 hl (k := 6) rfl (k_inc i) (by decide) rfl (fun ls hl => ?_)
        refine lv_goto (tgt := 67) hx hb dX0_multiply_177 (by decide) ?_
        exact ih (i + 1) _ H locs ls (by omega) (by omega) (nt_up_step hU rfl) hP hD hS (lv_sub hl [1, 2, 3, 4, 5, 6, 0] rfl)
set_option maxHeartbeats 4000000 in
set_option maxRecDepth 100000 in
/-- multiply(n, twisted): z holds the product -/
theorem m_mult (l : Launch) (D : va_G) (hd f1 f2 al ar az ax ay nl nr : Nat) (a1 b1 a2 b2 b : Nat) (tw : Bool) (cJ : ClassId) (Xf Yf Zf A1 B1 A2 B2 : Nat → Int64) (X Y Z : Nat → Int) (hb9 : b ≤ 9) (hX : ∀ j, j < 2 ^ b → Xf j = lI (X j) ∧ -(2 ^ 62) ≤ X j ∧ X j ≤ 2 ^ 62) (hY : ∀ j, j < 2 ^ b → Yf j = lI (Y j) ∧ -(2 ^ 62) ≤ Y j ∧ Y j ≤ 2 ^ 62) (hZb : ∀ j, j < 2 ^ b → -(2 ^ 58) ≤ Z j ∧ Z j ≤ 2 ^ 58) (hZ : ∀ (p : Nat) (t : Int), nt_c p (t ^ (2 ^ b)) (nt_tg tw) → nt_c p (nt_ev (2 ^ b) Z t) (nt_ev (2 ^ b) X t * nt_ev (2 ^ b) Y t)) : k_Mv l yX0_multiply cX0_multiply 16 rk3 D [.ref hd, .int (nI (2 ^ b)), .int (nI tw.toNat)] [(hd, .inr (0, [.ref f1, .ref f2, .ref al, .ref ar, .ref az, .ref ax, .ref ay, .int (nI nl), .int (nI nr)])), (f1, .inr (1, [.long (lN nt_P), .ref a1, .ref b1])), (f2, .inr (1, [.long (lN nt_Q), .ref a2, .ref b2])), (az, .inl (cJ, 512, .inr (.inl Zf))), (ax, .inl (cJ, 512, .inr (.inl Xf))), (ay, .inl (cJ, 512, .inr (.inl Yf))), (a1, .inl (cJ, 512, .inr (.inl A1))), (b1, .inl (cJ, 512, .inr (.inl B1))), (a2, .inl (cJ, 512, .inr (.inl A2))), (b2, .inl (cJ, 512, .inr (.inl B2)))] [(cJ, .long)] (fun u : (Nat → Int64) × (Nat → Int64) × (Nat → Int64) × (Nat → Int64) × (Nat → Int64) => ∀ j, j < 512 → u.1 j = lI (if j < 2 ^ b then Z j else 0)) (fun (u : (Nat → Int64) × (Nat → Int64) × (Nat → Int64) × (Nat → Int64) × (Nat → Int64)) => [(hd, .inr (0, [.ref f1, .ref f2, .ref al, .ref ar, .ref az, .ref ax, .ref ay, .int (nI nl), .int (nI nr)])), (f1, .inr (1, [.long (lN nt_P), .ref a1, .ref b1])), (f2, .inr (1, [.long (lN nt_Q), .ref a2, .ref b2])), (az, .inl (cJ, 512, .inr (.inl u.1))), (ax, .inl (cJ, 512, .inr (.inl Xf))), (ay, .inl (cJ, 512, .inr (.inl Yf))), (a1, .inl (cJ, 512, .inr (.inl u.2.1))), (b1, .inl (cJ, 512, .inr (.inl u.2.2.1))), (a2, .inl (cJ, 512, .inr (.inl u.2.2.2.1))), (b2, .inl (cJ, 512, .inr (.inl u.2.2.2.2)))]) (fun _ => [(cJ, .long)]) 0 0 := by
  intro sz
  refine k_met (Qc := fun A => va_Qv (fun u : (Nat → Int64) × (Nat → Int64) × (Nat → Int64) × (Nat → Int64) × (Nat → Int64) => ∀ j, j < 512 → u.1 j = lI (if j < 2 ^ b then Z j else 0)) (fun (u : (Nat → Int64) × (Nat → Int64) × (Nat → Int64) × (Nat → Int64) × (Nat → Int64)) t => k_B D A [(hd, .inr (0, [.ref f1, .ref f2, .ref al, .ref ar, .ref az, .ref ax, .ref ay, .int (nI nl), .int (nI nr)])), (f1, .inr (1, [.long (lN nt_P), .ref a1, .ref b1])), (f2, .inr (1, [.long (lN nt_Q), .ref a2, .ref b2])), (az, .inl (cJ, 512, .inr (.inl u.1))), (ax, .inl (cJ, 512, .inr (.inl Xf))), (ay, .inl (cJ, 512, .inr (.inl Yf))), (a1, .inl (cJ, 512, .inr (.inl u.2.1))), (b1, .inl (cJ, 512, .inr (.inl u.2.2.1))), (a2, .inl (cJ, 512, .inr (.inl u.2.2.2.1))), (b2, .inl (cJ, 512, .inr (.inl u.2.2.2.2)))] [(cJ, .long)] t) A) (by decide) (Nat.le_of_ble_eq_true rfl) ?_
  intro p e s m below meth c A ls C hP hK hD hA hS hl
  obtain ⟨hx, hb, hml, hr, hlocks, hown, hin, hts⟩ := id C
  have hown : s.vm.findClass RX0 = some m.cls := hown
  have hl : lv_has ls 16 [(0, .ref hd), (1, .int (nI (2 ^ b))), (2, .int (nI tw.toNat))] := hl
  refine lv_aload_n hx hb dX0_multiply_0 rfl (lv_at hl 0 rfl) ?_
  refine va_get (D := D) (ci := 0) (v := .ref f1) (C := RX0) (T := TX0) (N := 9) hx hb hts in_X0 hown hK hP 0 rfl rfl 0 (by decide) (hts _ q39) (fun _ h9 => h9) rfl dX0_multiply_1 ?_
  refine lv_aload_n hx hb dX0_multiply_4 rfl (lv_at hl 0 rfl) ?_
  refine va_get (D := D) (ci := 0) (v := .ref ax) (C := RX0) (T := TX0) (N := 9) hx hb hts in_X0 hown hK hP 0 rfl rfl 5 (by decide) (hts _ q44) (fun _ h9 => h9) rfl dX0_multiply_5 ?_
  refine lv_aload_n hx hb dX0_multiply_8 rfl (lv_at hl 0 rfl) ?_
  refine va_get (D := D) (ci := 0) (v := .ref ay) (C := RX0) (T := TX0) (N := 9) hx hb hts in_X0 hown hK hP 0 rfl rfl 6 (by decide) (hts _ q45) (fun _ h9 => h9) rfl dX0_multiply_9 ?_
  refine lv_iload_n hx hb dX0_multiply_12 rfl (lv_at hl 1 rfl) ?_
  refine lv_iload_n hx hb dX0_multiply_13 rfl (lv_at hl 2 rfl) ?_
  refine k_cVv (own := RX0) (wr := [(hd, .inr (0, [.ref f1, .ref f2, .ref al, .ref ar, .ref az, .ref ax, .ref ay, .int (nI nl), .int (nI nr)])), (f2, .inr (1, [.long (lN nt_Q), .ref a2, .ref b2])), (az, .inl (cJ, 512, .inr (.inl Zf))), (a2, .inl (cJ, 512, .inr (.inl A2))), (b2, .inl (cJ, 512, .inr (.inl B2)))]) (wo := fun u1 => [(hd, .inr (0, [.ref f1, .ref f2, .ref al, .ref ar, .ref az, .ref ax, .ref ay, .int (nI nl), .int (nI nr)])), (f1, .inr (1, [.long (lN nt_P), .ref a1, .ref b1])), (f2, .inr (1, [.long (lN nt_Q), .ref a2, .ref b2])), (az, .inl (cJ, 512, .inr (.inl Zf))), (ax, .inl (cJ, 512, .inr (.inl Xf))), (ay, .inl (cJ, 512, .inr (.inl Yf))), (a1, .inl (cJ, 512, .inr (.inl u1.1))), (b1, .inl (cJ, 512, .inr (.inl u1.2))), (a2, .inl (cJ, 512, .inr (.inl A2))), (b2, .inl (cJ, 512, .inr (.inl B2)))]) C rfl (m_rprod l D f1 a1 b1 nt_P (by decide) (by decide) (by decide) ax ay b tw cJ X Y Xf Yf A1 B1 hb9 (nt_chk_P b (by omega)) hX hY) (cwV 4 hts (lw_V q95 q96 q97 q9 q98) rfl rfl rfl (by decide +kernel) ⟨Nat.le_of_ble_eq_true rfl, Nat.le_of_ble_eq_true rfl⟩) hK hP hD hS hA 0 1 rfl rfl rfl [0] rfl [1, 4, 5, 6, 7] [0, 2, 3, 8, 9] rfl (by decide) rfl (by decide) (by decide) [0, 5, 1, 2, 6, 7, 8, 9, 3, 4] (fun _ => rfl) (by decide) rfl hl.1 rfl (Nat.le_of_ble_eq_true rfl) dX0_multiply_14 ⟨Nat.zero_le _, Nat.zero_le _⟩ (fun u1 H locs hw1 hP hD hKn hS => ?_)
  have hP : va_P D vwCl [(hd, .inr (0, [.ref f1, .ref f2, .ref al, .ref ar, .ref az, .ref ax, .ref ay, .int (nI nl), .int (nI nr)])), (f1, .inr (1, [.long (lN nt_P), .ref a1, .ref b1])), (f2, .inr (1, [.long (lN nt_Q), .ref a2, .ref b2])), (az, .inl (cJ, 512, .inr (.inl Zf))), (ax, .inl (cJ, 512, .inr (.inl Xf))), (ay, .inl (cJ, 512, .inr (.inl Yf))), (a1, .inl (cJ, 512, .inr (.inl u1.1))), (b1, .inl (cJ, 512, .inr (.inl u1.2))), (a2, .inl (cJ, 512, .inr (.inl A2))), (b2, .inl (cJ, 512, .inr (.inl B2)))] H := hP
  have hD : va_D A [(hd, .inr (0, [.ref f1, .ref f2, .ref al, .ref ar, .ref az, .ref ax, .ref ay, .int (nI nl), .int (nI nr)])), (f1, .inr (1, [.long (lN nt_P), .ref a1, .ref b1])), (f2, .inr (1, [.long (lN nt_Q), .ref a2, .ref b2])), (az, .inl (cJ, 512, .inr (.inl Zf))), (ax, .inl (cJ, 512, .inr (.inl Xf))), (ay, .inl (cJ, 512, .inr (.inl Yf))), (a1, .inl (cJ, 512, .inr (.inl u1.1))), (b1, .inl (cJ, 512, .inr (.inl u1.2))), (a2, .inl (cJ, 512, .inr (.inl A2))), (b2, .inl (cJ, 512, .inr (.inl B2)))] := hD
  obtain ⟨V1, g1, g2⟩ := hw1
  refine lv_aload_n hx hb dX0_multiply_17 rfl (lv_at hl 0 rfl) ?_
  refine va_get (D := D) (ci := 0) (v := .ref f2) (C := RX0) (T := TX0) (N := 9) hx hb hts in_X0 hown hK hP 0 rfl rfl 1 (by decide) (hts _ q40) (fun _ h9 => h9) rfl dX0_multiply_18 ?_
  refine lv_aload_n hx hb dX0_multiply_21 rfl (lv_at hl 0 rfl) ?_
  refine va_get (D := D) (ci := 0) (v := .ref ax) (C := RX0) (T := TX0) (N := 9) hx hb hts in_X0 hown hK hP 0 rfl rfl 5 (by decide) (hts _ q44) (fun _ h9 => h9) rfl dX0_multiply_22 ?_
  refine lv_aload_n hx hb dX0_multiply_25 rfl (lv_at hl 0 rfl) ?_
  refine va_get (D := D) (ci := 0) (v := .ref ay) (C := RX0) (T := TX0) (N := 9) hx hb hts in_X0 hown hK hP 0 rfl rfl 6 (by decide) (hts _ q45) (fun _ h9 => h9) rfl dX0_multiply_26 ?_
  refine lv_iload_n hx hb dX0_multiply_29 rfl (lv_at hl 1 rfl) ?_
  refine lv_iload_n hx hb dX0_multiply_30 rfl (lv_at hl 2 rfl) ?_
  refine k_cVv (own := RX0) (wr := [(hd, .inr (0, [.ref f1, .ref f2, .ref al, .ref ar, .ref az, .ref ax, .ref ay, .int (nI nl), .int (nI nr)])), (f1, .inr (1, [.long (lN nt_P), .ref a1, .ref b1])), (az, .inl (cJ, 512, .inr (.inl Zf))), (a1, .inl (cJ, 512, .inr (.inl u1.1))), (b1, .inl (cJ, 512, .inr (.inl u1.2)))]) (wo := fun u2 => [(hd, .inr (0, [.ref f1, .ref f2, .ref al, .ref ar, .ref az, .ref ax, .ref ay, .int (nI nl), .int (nI nr)])), (f1, .inr (1, [.long (lN nt_P), .ref a1, .ref b1])), (f2, .inr (1, [.long (lN nt_Q), .ref a2, .ref b2])), (az, .inl (cJ, 512, .inr (.inl Zf))), (ax, .inl (cJ, 512, .inr (.inl Xf))), (ay, .inl (cJ, 512, .inr (.inl Yf))), (a1, .inl (cJ, 512, .inr (.inl u1.1))), (b1, .inl (cJ, 512, .inr (.inl u1.2))), (a2, .inl (cJ, 512, .inr (.inl u2.1))), (b2, .inl (cJ, 512, .inr (.inl u2.2)))]) C rfl (m_rprod l D f2 a2 b2 nt_Q (by decide) (by decide) (by decide) ax ay b tw cJ X Y Xf Yf A2 B2 hb9 (nt_chk_Q b (by omega)) hX hY) (cwV 4 hts (lw_V q95 q96 q97 q9 q98) rfl rfl rfl (by decide +kernel) ⟨Nat.le_of_ble_eq_true rfl, Nat.le_of_ble_eq_true rfl⟩) hK hP hD hS hA 0 1 rfl rfl rfl [0] rfl [2, 4, 5, 8, 9] [0, 1, 3, 6, 7] rfl (by decide) rfl (by decide) (by decide) [0, 1, 5, 2, 6, 7, 3, 4, 8, 9] (fun _ => rfl) (by decide) rfl hl.1 rfl (Nat.le_of_ble_eq_true rfl) dX0_multiply_31 ⟨Nat.zero_le _, Nat.zero_le _⟩ (fun u2 H locs hw2 hP hD hKn hS => ?_)
  have hP : va_P D vwCl [(hd, .inr (0, [.ref f1, .ref f2, .ref al, .ref ar, .ref az, .ref ax, .ref ay, .int (nI nl), .int (nI nr)])), (f1, .inr (1, [.long (lN nt_P), .ref a1, .ref b1])), (f2, .inr (1, [.long (lN nt_Q), .ref a2, .ref b2])), (az, .inl (cJ, 512, .inr (.inl Zf))), (ax, .inl (cJ, 512, .inr (.inl Xf))), (ay, .inl (cJ, 512, .inr (.inl Yf))), (a1, .inl (cJ, 512, .inr (.inl u1.1))), (b1, .inl (cJ, 512, .inr (.inl u1.2))), (a2, .inl (cJ, 512, .inr (.inl u2.1))), (b2, .inl (cJ, 512, .inr (.inl u2.2)))] H := hP
  have hD : va_D A [(hd, .inr (0, [.ref f1, .ref f2, .ref al, .ref ar, .ref az, .ref ax, .ref ay, .int (nI nl), .int (nI nr)])), (f1, .inr (1, [.long (lN nt_P), .ref a1, .ref b1])), (f2, .inr (1, [.long (lN nt_Q), .ref a2, .ref b2])), (az, .inl (cJ, 512, .inr (.inl Zf))), (ax, .inl (cJ, 512, .inr (.inl Xf))), (ay, .inl (cJ, 512, .inr (.inl Yf))), (a1, .inl (cJ, 512, .inr (.inl u1.1))), (b1, .inl (cJ, 512, .inr (.inl u1.2))), (a2, .inl (cJ, 512, .inr (.inl u2.1))), (b2, .inl (cJ, 512, .inr (.inl u2.2)))] := hD
  obtain ⟨V2, g3, g4⟩ := hw2
  refine lv_aload_n hx hb dX0_multiply_34 rfl (lv_at hl 0 rfl) ?_
  refine va_get (D := D) (ci := 0) (v := .ref f1) (C := RX0) (T := TX0) (N := 9) hx hb hts in_X0 hown hK hP 0 rfl rfl 0 (by decide) (hts _ q39) (fun _ h9 => h9) rfl dX0_multiply_35 ?_
  refine va_get (D := D) (ci := 1) (v := .long (lN nt_P)) (C := RX1) (T := TX1) (N := 3) hx hb hts in_X1 hown hK hP 1 rfl rfl 0 (by decide) (hts _ q27) (fun _ h9 => h9) rfl dX0_multiply_38 ?_
  refine lv_lstore_n (lv' := [(3, .long (lN nt_P)), (0, .ref hd), (1, .int (nI (2 ^ b))), (2, .int (nI tw.toNat))]) hx hb dX0_multiply_41 rfl hl (by decide) rfl (fun ls hl => ?_)
  refine lv_aload_n hx hb dX0_multiply_42 rfl (lv_at hl 1 rfl) ?_
  refine va_get (D := D) (ci := 0) (v := .ref f2) (C := RX0) (T := TX0) (N := 9) hx hb hts in_X0 hown hK hP 0 rfl rfl 1 (by decide) (hts _ q40) (fun _ h9 => h9) rfl dX0_multiply_43 ?_
  refine va_get (D := D) (ci := 1) (v := .long (lN nt_Q)) (C := RX1) (T := TX1) (N := 3) hx hb hts in_X1 hown hK hP 2 rfl rfl 0 (by decide) (hts _ q27) (fun _ h9 => h9) rfl dX0_multiply_46 ?_
  refine lv_lstore (lv' := [(5, .long (lN nt_Q)), (3, .long (lN nt_P)), (0, .ref hd), (1, .int (nI (2 ^ b))), (2, .int (nI tw.toNat))]) hx hb dX0_multiply_49 hl (by decide) rfl (fun ls hl => ?_)
  refine lv_aload_n hx hb dX0_multiply_51 rfl (lv_at hl 2 rfl) ?_
  refine va_get (D := D) (ci := 0) (v := .ref f2) (C := RX0) (T := TX0) (N := 9) hx hb hts in_X0 hown hK hP 0 rfl rfl 1 (by decide) (hts _ q40) (fun _ h9 => h9) rfl dX0_multiply_52 ?_
  refine lv_lload_n hx hb dX0_multiply_55 rfl (lv_at hl 1 rfl) ?_
  refine lv_lload hx hb dX0_multiply_56 (lv_at hl 0 rfl) ?_
  refine k_lrem hx hb dX0_multiply_58 (by decide) (by decide) (by decide) ?_
  refine k_cVl (own := RX0) (wr := [(hd, .inr (0, [.ref f1, .ref f2, .ref al, .ref ar, .ref az, .ref ax, .ref ay, .int (nI nl), .int (nI nr)])), (f1, .inr (1, [.long (lN nt_P), .ref a1, .ref b1])), (az, .inl (cJ, 512, .inr (.inl Zf))), (ax, .inl (cJ, 512, .inr (.inl Xf))), (ay, .inl (cJ, 512, .inr (.inl Yf))), (a1, .inl (cJ, 512, .inr (.inl u1.1))), (b1, .inl (cJ, 512, .inr (.inl u1.2))), (a2, .inl (cJ, 512, .inr (.inl u2.1))), (b2, .inl (cJ, 512, .inr (.inl u2.2)))]) (wo := fun u => [(hd, .inr (0, [.ref f1, .ref f2, .ref al, .ref ar, .ref az, .ref ax, .ref ay, .int (nI nl), .int (nI nr)])), (f1, .inr (1, [.long (lN nt_P), .ref a1, .ref b1])), (f2, .inr (1, [.long (lN nt_Q), .ref a2, .ref b2])), (az, .inl (cJ, 512, .inr (.inl Zf))), (ax, .inl (cJ, 512, .inr (.inl Xf))), (ay, .inl (cJ, 512, .inr (.inl Yf))), (a1, .inl (cJ, 512, .inr (.inl u1.1))), (b1, .inl (cJ, 512, .inr (.inl u1.2))), (a2, .inl (cJ, 512, .inr (.inl u2.1))), (b2, .inl (cJ, 512, .inr (.inl u2.2)))]) C rfl (m_inverse l D f2 a2 b2 nt_Q (by decide) (by decide) (nt_P % nt_Q) (by decide)) (cwV 1 hts (lw_V q128 q124 q125 q9 q126) rfl rfl rfl (by decide +kernel) ⟨Nat.le_of_ble_eq_true rfl, Nat.le_of_ble_eq_true rfl⟩) hK hP hD hS hA 0 1 rfl rfl rfl [] rfl [2] [0, 1, 3, 4, 5, 6, 7, 8, 9] rfl (by decide) rfl (by decide) (by decide) [0, 1, 9, 2, 3, 4, 5, 6, 7, 8] (fun _ => rfl) (by decide) rfl hl.1 rfl (Nat.le_of_ble_eq_true rfl) dX0_multiply_59 ⟨Nat.zero_le _, Nat.zero_le _⟩ (fun bk0 u H locs hbk hP hD hS => ?_)
  have hP : va_P D vwCl [(hd, .inr (0, [.ref f1, .ref f2, .ref al, .ref ar, .ref az, .ref ax, .ref ay, .int (nI nl), .int (nI nr)])), (f1, .inr (1, [.long (lN nt_P), .ref a1, .ref b1])), (f2, .inr (1, [.long (lN nt_Q), .ref a2, .ref b2])), (az, .inl (cJ, 512, .inr (.inl Zf))), (ax, .inl (cJ, 512, .inr (.inl Xf))), (ay, .inl (cJ, 512, .inr (.inl Yf))), (a1, .inl (cJ, 512, .inr (.inl u1.1))), (b1, .inl (cJ, 512, .inr (.inl u1.2))), (a2, .inl (cJ, 512, .inr (.inl u2.1))), (b2, .inl (cJ, 512, .inr (.inl u2.2)))] H := hP
  have hD : va_D A [(hd, .inr (0, [.ref f1, .ref f2, .ref al, .ref ar, .ref az, .ref ax, .ref ay, .int (nI nl), .int (nI nr)])), (f1, .inr (1, [.long (lN nt_P), .ref a1, .ref b1])), (f2, .inr (1, [.long (lN nt_Q), .ref a2, .ref b2])), (az, .inl (cJ, 512, .inr (.inl Zf))), (ax, .inl (cJ, 512, .inr (.inl Xf))), (ay, .inl (cJ, 512, .inr (.inl Yf))), (a1, .inl (cJ, 512, .inr (.inl u1.1))), (b1, .inl (cJ, 512, .inr (.inl u1.2))), (a2, .inl (cJ, 512, .inr (.inl u2.1))), (b2, .inl (cJ, 512, .inr (.inl u2.2)))] := hD
  obtain ⟨bk, ebk, hk1, hk2⟩ := nt_bk_ex
  rw [ebk] at hbk
  refine k_tl (lN (bk)) hbk ?_
  refine lv_lstore (lv' := [(7, .long (lN bk)), (5, .long (lN nt_Q)), (3, .long (lN nt_P)), (0, .ref hd), (1, .int (nI (2 ^ b))), (2, .int (nI tw.toNat))]) hx hb dX0_multiply_62 hl (by decide) rfl (fun ls hl => ?_)
  refine lv_iconst (v := nI 0) hx hb dX0_multiply_64 (by decide) ?_
  refine lv_istore (lv' := [(9, .int (nI 0)), (7, .long (lN bk)), (5, .long (lN nt_Q)), (3, .long (lN nt_P)), (0, .ref hd), (1, .int (nI (2 ^ b))), (2, .int (nI tw.toNat))]) hx hb dX0_multiply_65 hl (by decide) rfl (fun ls hl => ?_)
  refine lp_crt (tw := tw) (Zf := Zf) hk1 hk2 C hb9 hA hK g1 g3 (g2 Z (fun t ht => hZ nt_P t ht)) (g4 Z (fun t ht => hZ nt_Q t ht)) hZb (fun Z' H locs ls hU hP hD hS => ?_) 513 0 Zf H locs ls (by omega) (Nat.zero_le _) (nt_up_0 _ _) hP hD hS (lv_sub hl [4, 5, 6, 3, 2, 1, 0] rfl)
  exact W.vret hx hb hr (fun t ht hW => ⟨⟨(Z', u1.1, u1.2, u2.1, u2.2), rfl, hU.1, by rw [ht]; exact hP, va_K.moved hW.alike hK, hD⟩, hS.F ht⟩) hS.2.2 dX0_multiply_180
end
section
/-! ProductDesk: fold, product, likeness, circle, twisted -/
abbrev rk4 : Room := { frames := 4, cells := 0, slots := 0, locals := 130 }
abbrev rk5 : Room := { frames := 5, cells := 0, slots := 0, locals := 153 }
theorem nt_sg_1 {tw : Bool} {n i : Nat} (h : tw = false ∨ i / n % 2 ≠ 1) : nt_sg tw n i = 1 := by
  unfold nt_sg
  rw [if_neg]
  rintro ⟨h1, h2⟩
  rcases h with h | h
  · rw [h] at h1; exact absurd h1 (by decide)
  · exact h h2
theorem nt_sg_m {tw : Bool} {n i : Nat} (h1 : tw = true) (h2 : i / n % 2 = 1) : nt_sg tw n i = -1 := if_pos ⟨h1, h2⟩
theorem nt_neg32 {x : Int32} (h : -(2 ^ 19) ≤ x.toInt) : (-x).toInt64 = lI (-x.toInt) := by
  rw [Int32.toInt64_neg_of_ne (by
    intro e
    have e2 : x.toInt = (-2147483648 : Int32).toInt := by rw [e]
    have e3 : (-2147483648 : Int32).toInt = -2147483648 := by decide
    omega), lI_i2l]
  exact (Int64.ofInt_neg _).symm
theorem nt_fold_step {ix : Nat → Nat} {c : Nat → Int} {i : Nat} {F : Nat → Int64} (h : ∀ k, k < 512 → F k = lI (nt_B i ix c k)) :
    ∀ k, k < 512 → vp_updL F (ix i) (lI (nt_B i ix c (ix i) + c i)) k = lI (nt_B (i + 1) ix c k) := by
  intro k hk
  rw [nt_B1]
  by_cases e : k = ix i
  · subst e
    rw [pk_uLs, if_pos rfl]
  · rw [pk_uLn e, if_neg (fun q => e q.symm), Int.add_zero]
    exact h k hk
theorem nt_sg_bd {tw : Bool} {n i : Nat} {x B : Int} (h : -B ≤ x ∧ x ≤ B) : -B ≤ nt_sg tw n i * x ∧ nt_sg tw n i * x ≤ B := by
  rcases nt_sg_b tw n i with e | e <;> rw [e] <;> omega
set_option maxHeartbeats 4000000 in
set_option maxRecDepth 100000 in
theorem lp_zero {p : Program} {l : Launch} {e : Env} {R : Room} {s : State} {m : MethodId} {args : Array Value} {below : List Frame} {meth : Method} {c : Code} {Q : State → Prop} {D : va_G} {cells slots : Nat} {A : Nat → Prop} {hd f1 f2 al ar az ax ay nl nr : Nat} {a1 b1 a2 b2 b : Nat} {tw : Bool} {cI cJ : ClassId} {lf rf : Nat → Int32} {Zf A1 B1 A2 B2 : Nat → Int64} {Xf Yf : Nat → Int64} (C : k_C p s m args meth c yX0_fold cX0_fold 4 none) (hK : va_K D vwCl [(cI, .int), (cJ, .long)] s)
    (kk : ∀ (X' Y' : Nat → Int64) (H : Heap) (locs : List Loc) (ls : Array Slot), nt_up 512 (fun _ => lN 0) Xf X' → nt_up 512 (fun _ => lN 0) Yf Y' → va_P D vwCl [(hd, .inr (0, [.ref f1, .ref f2, .ref al, .ref ar, .ref az, .ref ax, .ref ay, .int (nI nl), .int (nI nr)])), (f1, .inr (1, [.long (lN nt_P), .ref a1, .ref b1])), (f2, .inr (1, [.long (lN nt_Q), .ref a2, .ref b2])), (al, .inl (cI, 256, .inl lf)), (ar, .inl (cI, 256, .inl rf)), (az, .inl (cJ, 512, .inr (.inl Zf))), (ax, .inl (cJ, 512, .inr (.inl X'))), (ay, .inl (cJ, 512, .inr (.inl Y'))), (a1, .inl (cJ, 512, .inr (.inl A1))), (b1, .inl (cJ, 512, .inr (.inl B1))), (a2, .inl (cJ, 512, .inr (.inl A2))), (b2, .inl (cJ, 512, .inr (.inl B2)))] H → va_D A [(hd, .inr (0, [.ref f1, .ref f2, .ref al, .ref ar, .ref az, .ref ax, .ref ay, .int (nI nl), .int (nI nr)])), (f1, .inr (1, [.long (lN nt_P), .ref a1, .ref b1])), (f2, .inr (1, [.long (lN nt_Q), .ref a2, .ref b2])), (al, .inl (cI, 256, .inl lf)), (ar, .inl (cI, 256, .inl rf)), (az, .inl (cJ, 512, .inr (.inl Zf))), (ax, .inl (cJ, 512, .inr (.inl X'))), (ay, .inl (cJ, 512, .inr (.inl Y'))), (a1, .inl (cJ, 512, .inr (.inl A1))), (b1, .inl (cJ, 512, .inr (.inl B1))), (a2, .inl (cJ, 512, .inr (.inl A2))), (b2, .inl (cJ, 512, .inr (.inl B2)))] → va_S A s.heap H locs → lv_has ls 4 [(0, .ref hd), (1, .int (nI (2 ^ b))), (2, .int (nI tw.toNat))] → W p l e R s m args below meth c H locs cells slots Q (F0 m 29 ls [])) :
    ∀ (N i : Nat) (X' Y' : Nat → Int64) (H : Heap) (locs : List Loc) (ls : Array Slot), 512 < i + N → i ≤ 512 → nt_up i (fun _ => lN 0) Xf X' → nt_up i (fun _ => lN 0) Yf Y' → va_P D vwCl [(hd, .inr (0, [.ref f1, .ref f2, .ref al, .ref ar, .ref az, .ref ax, .ref ay, .int (nI nl), .int (nI nr)])), (f1, .inr (1, [.long (lN nt_P), .ref a1, .ref b1])), (f2, .inr (1, [.long (lN nt_Q), .ref a2, .ref b2])), (al, .inl (cI, 256, .inl lf)), (ar, .inl (cI, 256, .inl rf)), (az, .inl (cJ, 512, .inr (.inl Zf))), (ax, .inl (cJ, 512, .inr (.inl X'))), (ay, .inl (cJ, 512, .inr (.inl Y'))), (a1, .inl (cJ, 512, .inr (.inl A1))), (b1, .inl (cJ, 512, .inr (.inl B1))), (a2, .inl (cJ, 512, .inr (.inl A2))), (b2, .inl (cJ, 512, .inr (.inl B2)))] H → va_D A [(hd, .inr (0, [.ref f1, .ref f2, .ref al, .ref ar, .ref az, .ref ax, .ref ay, .int (nI nl), .int (nI nr)])), (f1, .inr (1, [.long (lN nt_P), .ref a1, .ref b1])), (f2, .inr (1, [.long (lN nt_Q), .ref a2, .ref b2])), (al, .inl (cI, 256, .inl lf)), (ar, .inl (cI, 256, .inl rf)), (az, .inl (cJ, 512, .inr (.inl Zf))), (ax, .inl (cJ, 512, .inr (.inl X'))), (ay, .inl (cJ, 512, .inr (.inl Y'))), (a1, .inl (cJ, 512, .inr (.inl A1))), (b1, .inl (cJ, 512, .inr (.inl B1))), (a2, .inl (cJ, 512, .inr (.inl A2))), (b2, .inl (cJ, 512, .inr (.inl B2)))] → va_S A s.heap H locs → lv_has ls 4 [(0, .ref hd), (1, .int (nI (2 ^ b))), (2, .int (nI tw.toNat)), (3, .int (nI i))] → W p l e R s m args below meth c H locs cells slots Q (F0 m 2 ls []) := by
  obtain ⟨hx, hb, hml, hr, hlocks, hown, hin, hts⟩ := id C
  have hown : s.vm.findClass RX0 = some m.cls := hown
  intro N
  induction N with
  | zero => intro i X' Y' H locs ls h1 h2; exact absurd h1 (by omega)
  | succ N ih =>
    intro i X' Y' H locs ls h1 h2 hU hV hP hD hS hl
    refine lv_iload_n hx hb dX0_fold_2 rfl (lv_at hl 3 rfl) ?_
    refine lv_sipush (v := nI 512) hx hb dX0_fold_3 (by decide) ?_
    refine k_icmp_ge (tgt := 29) hx hb dX0_fold_6 (by decide) (by omega) (by omega) (fun c1 => ?_) (fun c1 => ?_)
    · have e0 : i = 512 := by omega
      rw [e0] at hU hV
      exact kk X' Y' H locs ls hU hV hP hD hS (lv_sub hl [0, 1, 2] rfl)
    · refine lv_aload_n hx hb dX0_fold_9 rfl (lv_at hl 0 rfl) ?_
      refine va_get (D := D) (ci := 0) (v := .ref ax) (C := RX0) (T := TX0) (N := 9) hx hb hts in_X0 hown hK hP 0 rfl rfl 5 (by decide) (hts _ q44) (fun _ h9 => h9) rfl dX0_fold_10 ?_
      refine lv_iload_n hx hb dX0_fold_13 rfl (lv_at hl 3 rfl) ?_
      refine lv_lconst (v := lN 0) hx hb dX0_fold_14 (by decide) ?_
      refine k_last hx hb hK hP hD hS 6 1 rfl rfl (by omega) (by decide) dX0_fold_15 (fun H locs hP hD hS => ?_)
      have hP : va_P D vwCl [(hd, .inr (0, [.ref f1, .ref f2, .ref al, .ref ar, .ref az, .ref ax, .ref ay, .int (nI nl), .int (nI nr)])), (f1, .inr (1, [.long (lN nt_P), .ref a1, .ref b1])), (f2, .inr (1, [.long (lN nt_Q), .ref a2, .ref b2])), (al, .inl (cI, 256, .inl lf)), (ar, .inl (cI, 256, .inl rf)), (az, .inl (cJ, 512, .inr (.inl Zf))), (ax, .inl (cJ, 512, .inr (.inl (vp_updL X' i (lN 0))))), (ay, .inl (cJ, 512, .inr (.inl Y'))), (a1, .inl (cJ, 512, .inr (.inl A1))), (b1, .inl (cJ, 512, .inr (.inl B1))), (a2, .inl (cJ, 512, .inr (.inl A2))), (b2, .inl (cJ, 512, .inr (.inl B2)))] H := hP
      have hD : va_D A [(hd, .inr (0, [.ref f1, .ref f2, .ref al, .ref ar, .ref az, .ref ax, .ref ay, .int (nI nl), .int (nI nr)])), (f1, .inr (1, [.long (lN nt_P), .ref a1, .ref b1])), (f2, .inr (1, [.long (lN nt_Q), .ref a2, .ref b2])), (al, .inl (cI, 256, .inl lf)), (ar, .inl (cI, 256, .inl rf)), (az, .inl (cJ, 512, .inr (.inl Zf))), (ax, .inl (cJ, 512, .inr (.inl (vp_updL X' i (lN 0))))), (ay, .inl (cJ, 512, .inr (.inl Y'))), (a1, .inl (cJ, 512, .inr (.inl A1))), (b1, .inl (cJ, 512, .inr (.inl B1))), (a2, .inl (cJ, 512, .inr (.inl A2))), (b2, .inl (cJ, 512, .inr (.inl B2)))] := hD
      refine lv_aload_n hx hb dX0_fold_16 rfl (lv_at hl 0 rfl) ?_
      refine va_get (D := D) (ci := 0) (v := .ref ay) (C := RX0) (T := TX0) (N := 9) hx hb hts in_X0 hown hK hP 0 rfl rfl 6 (by decide) (hts _ q45) (fun _ h9 => h9) rfl dX0_fold_17 ?_
      refine lv_iload_n hx hb dX0_fold_20 rfl (lv_at hl 3 rfl) ?_
      refine lv_lconst (v := lN 0) hx hb dX0_fold_21 (by decide) ?_
      refine k_last hx hb hK hP hD hS 7 1 rfl rfl (by omega) (by decide) dX0_fold_22 (fun H locs hP hD hS => ?_)
      have hP : va_P D vwCl [(hd, .inr (0, [.ref f1, .ref f2, .ref al, .ref ar, .ref az, .ref ax, .ref ay, .int (nI nl), .int (nI nr)])), (f1, .inr (1, [.long (lN nt_P), .ref a1, .ref b1])), (f2, .inr (1, [.long (lN nt_Q), .ref a2, .ref b2])), (al, .inl (cI, 256, .inl lf)), (ar, .inl (cI, 256, .inl rf)), (az, .inl (cJ, 512, .inr (.inl Zf))), (ax, .inl (cJ, 512, .inr (.inl (vp_updL X' i (lN 0))))), (ay, .inl (cJ, 512, .inr (.inl (vp_updL Y' i (lN 0))))), (a1, .inl (cJ, 512, .inr (.inl A1))), (b1, .inl (cJ, 512, .inr (.inl B1))), (a2, .inl (cJ, 512, .inr (.inl A2))), (b2, .inl (cJ, 512, .inr (.inl B2)))] H := hP
      have hD : va_D A [(hd, .inr (0, [.ref f1, .ref f2, .ref al, .ref ar, .ref az, .ref ax, .ref ay, .int (nI nl), .int (nI nr)])), (f1, .inr (1, [.long (lN nt_P), .ref a1, .ref b1])), (f2, .inr (1, [.long (lN nt_Q), .ref a2, .ref b2])), (al, .inl (cI, 256, .inl lf)), (ar, .inl (cI, 256, .inl rf)), (az, .inl (cJ, 512, .inr (.inl Zf))), (ax, .inl (cJ, 512, .inr (.inl (vp_updL X' i (lN 0))))), (ay, .inl (cJ, 512, .inr (.inl (vp_updL Y' i (lN 0))))), (a1, .inl (cJ, 512, .inr (.inl A1))), (b1, .inl (cJ, 512, .inr (.inl B1))), (a2, .inl (cJ, 512, .inr (.inl A2))), (b2, .inl (cJ, 512, .inr (.inl B2)))] := hD
      refine lv_iinc (v := nI (i + 1)) (lv' := [(3, .int (nI (i + 1))), (0, .ref hd), (1, .int (nI (2 ^ b))), (2, .int (nI tw.toNat))]) hx hb dX0_fold_23 hl (k := 3) rfl (k_inc i) (by decide) rfl (fun ls hl => ?_)
      refine lv_goto (tgt := 2) hx hb dX0_fold_26 (by decide) ?_
      exact ih (i + 1) _ _ H locs ls (by omega) (by omega) (nt_up_step hU rfl) (nt_up_step hV rfl) hP hD hS (lv_sub hl [1, 2, 3, 0] rfl)
set_option maxHeartbeats 4000000 in
set_option maxRecDepth 100000 in
theorem lp_foldx {p : Program} {l : Launch} {e : Env} {R : Room} {s : State} {m : MethodId} {args : Array Value} {below : List Frame} {meth : Method} {c : Code} {Q : State → Prop} {D : va_G} {cells slots : Nat} {A : Nat → Prop} {hd f1 f2 al ar az ax ay nl nr : Nat} {a1 b1 a2 b2 b : Nat} {tw : Bool} {cI cJ : ClassId} {lf rf : Nat → Int32} {Zf A1 B1 A2 B2 : Nat → Int64} {Yf : Nat → Int64} (C : k_C p s m args meth c yX0_fold cX0_fold 4 none) (hb9 : b ≤ 9) (hn : nl ≤ 256) (hsm : nt_sm lf) (hK : va_K D vwCl [(cI, .int), (cJ, .long)] s)
    (kk : ∀ (X' : Nat → Int64) (H : Heap) (locs : List Loc) (ls : Array Slot), (∀ k, k < 512 → X' k = lI (nt_B nl (fun i => i % 2 ^ b) (fun i => nt_sg tw (2 ^ b) i * (lf i).toInt) k)) → va_P D vwCl [(hd, .inr (0, [.ref f1, .ref f2, .ref al, .ref ar, .ref az, .ref ax, .ref ay, .int (nI nl), .int (nI nr)])), (f1, .inr (1, [.long (lN nt_P), .ref a1, .ref b1])), (f2, .inr (1, [.long (lN nt_Q), .ref a2, .ref b2])), (al, .inl (cI, 256, .inl lf)), (ar, .inl (cI, 256, .inl rf)), (az, .inl (cJ, 512, .inr (.inl Zf))), (ax, .inl (cJ, 512, .inr (.inl X'))), (ay, .inl (cJ, 512, .inr (.inl Yf))), (a1, .inl (cJ, 512, .inr (.inl A1))), (b1, .inl (cJ, 512, .inr (.inl B1))), (a2, .inl (cJ, 512, .inr (.inl A2))), (b2, .inl (cJ, 512, .inr (.inl B2)))] H → va_D A [(hd, .inr (0, [.ref f1, .ref f2, .ref al, .ref ar, .ref az, .ref ax, .ref ay, .int (nI nl), .int (nI nr)])), (f1, .inr (1, [.long (lN nt_P), .ref a1, .ref b1])), (f2, .inr (1, [.long (lN nt_Q), .ref a2, .ref b2])), (al, .inl (cI, 256, .inl lf)), (ar, .inl (cI, 256, .inl rf)), (az, .inl (cJ, 512, .inr (.inl Zf))), (ax, .inl (cJ, 512, .inr (.inl X'))), (ay, .inl (cJ, 512, .inr (.inl Yf))), (a1, .inl (cJ, 512, .inr (.inl A1))), (b1, .inl (cJ, 512, .inr (.inl B1))), (a2, .inl (cJ, 512, .inr (.inl A2))), (b2, .inl (cJ, 512, .inr (.inl B2)))] → va_S A s.heap H locs → lv_has ls 4 [(0, .ref hd), (1, .int (nI (2 ^ b))), (2, .int (nI tw.toNat))] → W p l e R s m args below meth c H locs cells slots Q (F0 m 89 ls [])) :
    ∀ (N i : Nat) (X' : Nat → Int64) (H : Heap) (locs : List Loc) (ls : Array Slot), nl < i + N → i ≤ nl → (∀ k, k < 512 → X' k = lI (nt_B i (fun i => i % 2 ^ b) (fun i => nt_sg tw (2 ^ b) i * (lf i).toInt) k)) → va_P D vwCl [(hd, .inr (0, [.ref f1, .ref f2, .ref al, .ref ar, .ref az, .ref ax, .ref ay, .int (nI nl), .int (nI nr)])), (f1, .inr (1, [.long (lN nt_P), .ref a1, .ref b1])), (f2, .inr (1, [.long (lN nt_Q), .ref a2, .ref b2])), (al, .inl (cI, 256, .inl lf)), (ar, .inl (cI, 256, .inl rf)), (az, .inl (cJ, 512, .inr (.inl Zf))), (ax, .inl (cJ, 512, .inr (.inl X'))), (ay, .inl (cJ, 512, .inr (.inl Yf))), (a1, .inl (cJ, 512, .inr (.inl A1))), (b1, .inl (cJ, 512, .inr (.inl B1))), (a2, .inl (cJ, 512, .inr (.inl A2))), (b2, .inl (cJ, 512, .inr (.inl B2)))] H → va_D A [(hd, .inr (0, [.ref f1, .ref f2, .ref al, .ref ar, .ref az, .ref ax, .ref ay, .int (nI nl), .int (nI nr)])), (f1, .inr (1, [.long (lN nt_P), .ref a1, .ref b1])), (f2, .inr (1, [.long (lN nt_Q), .ref a2, .ref b2])), (al, .inl (cI, 256, .inl lf)), (ar, .inl (cI, 256, .inl rf)), (az, .inl (cJ, 512, .inr (.inl Zf))), (ax, .inl (cJ, 512, .inr (.inl X'))), (ay, .inl (cJ, 512, .inr (.inl Yf))), (a1, .inl (cJ, 512, .inr (.inl A1))), (b1, .inl (cJ, 512, .inr (.inl B1))), (a2, .inl (cJ, 512, .inr (.inl A2))), (b2, .inl (cJ, 512, .inr (.inl B2)))] → va_S A s.heap H locs → lv_has ls 4 [(0, .ref hd), (1, .int (nI (2 ^ b))), (2, .int (nI tw.toNat)), (3, .int (nI i))] → W p l e R s m args below meth c H locs cells slots Q (F0 m 31 ls []) := by
  obtain ⟨hx, hb, hml, hr, hlocks, hown, hin, hts⟩ := id C
  have hown : s.vm.findClass RX0 = some m.cls := hown
  have hb2 := nt_2b hb9
  have hp2 : 0 < 2 ^ b := Nat.two_pow_pos b
  have htw : tw.toNat ≤ 1 := Bool.toNat_le tw
  intro N
  induction N with
  | zero => intro i X' H locs ls h1 h2; exact absurd h1 (by omega)
  | succ N ih =>
    intro i X' H locs ls h1 h2 hU hP hD hS hl
    refine lv_iload_n hx hb dX0_fold_31 rfl (lv_at hl 3 rfl) ?_
    refine lv_aload_n hx hb dX0_fold_32 rfl (lv_at hl 0 rfl) ?_
    refine va_get (D := D) (ci := 0) (v := .int (nI nl)) (C := RX0) (T := TX0) (N := 9) hx hb hts in_X0 hown hK hP 0 rfl rfl 7 (by decide) (hts _ q46) (fun _ h9 => h9) rfl dX0_fold_33 ?_
    refine k_icmp_ge (tgt := 89) hx hb dX0_fold_36 (by decide) (by omega) (by omega) (fun c1 => ?_) (fun c1 => ?_)
    · have e0 : i = nl := by omega
      rw [e0] at hU
      exact kk X' H locs ls hU hP hD hS (lv_sub hl [0, 1, 2] rfl)
    · have hm : i % 2 ^ b < 2 ^ b := Nat.mod_lt _ hp2
      have hdv : i / 2 ^ b ≤ i := Nat.div_le_self _ _
      have hst := nt_fold_step hU
      refine lv_aload_n hx hb dX0_fold_39 rfl (lv_at hl 0 rfl) ?_
      refine va_get (D := D) (ci := 0) (v := .ref ax) (C := RX0) (T := TX0) (N := 9) hx hb hts in_X0 hown hK hP 0 rfl rfl 5 (by decide) (hts _ q44) (fun _ h9 => h9) rfl dX0_fold_40 ?_
      refine lv_iload_n hx hb dX0_fold_43 rfl (lv_at hl 3 rfl) ?_
      refine lv_iload_n hx hb dX0_fold_44 rfl (lv_at hl 1 rfl) ?_
      refine lv_iconst (v := nI 1) hx hb dX0_fold_45 (by decide) ?_
      refine k_isub hx hb dX0_fold_46 (by omega) ?_
      refine lv_iand hx hb dX0_fold_47 ?_
      refine k_ti (nI (i % 2 ^ b)) (fa_mask i b) ?_
      refine lv_dup2_11 hx hb dX0_fold_48 rfl rfl ?_
      refine k_lald hx hb hK hP 6 1 rfl rfl (by omega) (by decide) dX0_fold_49 ?_
      refine k_tl (lI (nt_B i (fun i => i % 2 ^ b) (fun i => nt_sg tw (2 ^ b) i * (lf i).toInt) (i % 2 ^ b))) (hU _ (by omega)) ?_
      refine lv_iload_n hx hb dX0_fold_50 rfl (lv_at hl 2 rfl) ?_
      refine k_if_eq (tgt := 74) hx hb dX0_fold_51 (by decide) (by omega) (fun c2 => ?_) (fun c2 => ?_)
      · have e5 : tw = false := by cases tw with | false => rfl | true => exact absurd c2 (by decide)
        refine lv_aload_n hx hb dX0_fold_74 rfl (lv_at hl 0 rfl) ?_
        refine va_get (D := D) (ci := 0) (v := .ref al) (C := RX0) (T := TX0) (N := 9) hx hb hts in_X0 hown hK hP 0 rfl rfl 2 (by decide) (hts _ q41) (fun _ h9 => h9) rfl dX0_fold_75 ?_
        refine lv_iload_n hx hb dX0_fold_78 rfl (lv_at hl 3 rfl) ?_
        refine k_iald hx hb hK hP 3 0 rfl rfl (by omega) (by decide) dX0_fold_79 ?_
        refine lv_i2l (v := lI (lf i).toInt) hx hb dX0_fold_80 (lI_i2l _) ?_
        refine k_tl (lI (nt_sg tw (2 ^ b) i * (lf i).toInt)) (by rw [nt_sg_1 (Or.inl e5), Int.one_mul]) ?_
        refine lv_ladd hx hb dX0_fold_81  ?_
        refine k_tl (lI (nt_B i (fun i => i % 2 ^ b) (fun i => nt_sg tw (2 ^ b) i * (lf i).toInt) (i % 2 ^ b) + nt_sg tw (2 ^ b) i * (lf i).toInt)) (lI_add _ _) ?_
        refine k_last hx hb hK hP hD hS 6 1 rfl rfl (by omega) (by decide) dX0_fold_82 (fun H locs hP hD hS => ?_)
        have hP : va_P D vwCl [(hd, .inr (0, [.ref f1, .ref f2, .ref al, .ref ar, .ref az, .ref ax, .ref ay, .int (nI nl), .int (nI nr)])), (f1, .inr (1, [.long (lN nt_P), .ref a1, .ref b1])), (f2, .inr (1, [.long (lN nt_Q), .ref a2, .ref b2])), (al, .inl (cI, 256, .inl lf)), (ar, .inl (cI, 256, .inl rf)), (az, .inl (cJ, 512, .inr (.inl Zf))), (ax, .inl (cJ, 512, .inr (.inl (vp_updL X' (i % 2 ^ b) (lI (nt_B i (fun i => i % 2 ^ b) (fun i => nt_sg tw (2 ^ b) i * (lf i).toInt) (i % 2 ^ b) + nt_sg tw (2 ^ b) i * (lf i).toInt)))))), (ay, .inl (cJ, 512, .inr (.inl Yf))), (a1, .inl (cJ, 512, .inr (.inl A1))), (b1, .inl (cJ, 512, .inr (.inl B1))), (a2, .inl (cJ, 512, .inr (.inl A2))), (b2, .inl (cJ, 512, .inr (.inl B2)))] H := hP
        have hD : va_D A [(hd, .inr (0, [.ref f1, .ref f2, .ref al, .ref ar, .ref az, .ref ax, .ref ay, .int (nI nl), .int (nI nr)])), (f1, .inr (1, [.long (lN nt_P), .ref a1, .ref b1])), (f2, .inr (1, [.long (lN nt_Q), .ref a2, .ref b2])), (al, .inl (cI, 256, .inl lf)), (ar, .inl (cI, 256, .inl rf)), (az, .inl (cJ, 512, .inr (.inl Zf))), (ax, .inl (cJ, 512, .inr (.inl (vp_updL X' (i % 2 ^ b) (lI (nt_B i (fun i => i % 2 ^ b) (fun i => nt_sg tw (2 ^ b) i * (lf i).toInt) (i % 2 ^ b) + nt_sg tw (2 ^ b) i * (lf i).toInt)))))), (ay, .inl (cJ, 512, .inr (.inl Yf))), (a1, .inl (cJ, 512, .inr (.inl A1))), (b1, .inl (cJ, 512, .inr (.inl B1))), (a2, .inl (cJ, 512, .inr (.inl A2))), (b2, .inl (cJ, 512, .inr (.inl B2)))] := hD
        refine lv_iinc (v := nI (i + 1)) (lv' := [(3, .int (nI (i + 1))), (0, .ref hd), (1, .int (nI (2 ^ b))), (2, .int (nI tw.toNat))]) hx hb dX0_fold_83 hl (k := 3) rfl (k_inc i) (by decide) rfl (fun ls hl => ?_)
        refine lv_goto (tgt := 31) hx hb dX0_fold_86 (by decide) ?_
        exact ih (i + 1) _ H locs ls (by omega) (by omega) hst hP hD hS (lv_sub hl [1, 2, 3, 0] rfl)
      · have e5 : tw = true := by cases tw with | false => exact absurd rfl c2 | true => rfl
        refine lv_iload_n hx hb dX0_fold_54 rfl (lv_at hl 3 rfl) ?_
        refine lv_iload_n hx hb dX0_fold_55 rfl (lv_at hl 1 rfl) ?_
        refine k_idiv hx hb dX0_fold_56 (by omega) (by omega) (by omega) ?_
        refine lv_iconst (v := nI 1) hx hb dX0_fold_57 (by decide) ?_
        refine lv_iand hx hb dX0_fold_58 ?_
        refine k_ti (nI (i / 2 ^ b % 2)) (k_iand1 _) ?_
        refine lv_iconst (v := nI 1) hx hb dX0_fold_59 (by decide) ?_
        refine k_icmp_ne (tgt := 74) hx hb dX0_fold_60 (by decide) (by omega) (by omega) (fun c3 => ?_) (fun c3 => ?_)
        · refine lv_aload_n hx hb dX0_fold_74 rfl (lv_at hl 0 rfl) ?_
          refine va_get (D := D) (ci := 0) (v := .ref al) (C := RX0) (T := TX0) (N := 9) hx hb hts in_X0 hown hK hP 0 rfl rfl 2 (by decide) (hts _ q41) (fun _ h9 => h9) rfl dX0_fold_75 ?_
          refine lv_iload_n hx hb dX0_fold_78 rfl (lv_at hl 3 rfl) ?_
          refine k_iald hx hb hK hP 3 0 rfl rfl (by omega) (by decide) dX0_fold_79 ?_
          refine lv_i2l (v := lI (lf i).toInt) hx hb dX0_fold_80 (lI_i2l _) ?_
          refine k_tl (lI (nt_sg tw (2 ^ b) i * (lf i).toInt)) (by rw [nt_sg_1 (Or.inr c3), Int.one_mul]) ?_
          refine lv_ladd hx hb dX0_fold_81  ?_
          refine k_tl (lI (nt_B i (fun i => i % 2 ^ b) (fun i => nt_sg tw (2 ^ b) i * (lf i).toInt) (i % 2 ^ b) + nt_sg tw (2 ^ b) i * (lf i).toInt)) (lI_add _ _) ?_
          refine k_last hx hb hK hP hD hS 6 1 rfl rfl (by omega) (by decide) dX0_fold_82 (fun H locs hP hD hS => ?_)
          have hP : va_P D vwCl [(hd, .inr (0, [.ref f1, .ref f2, .ref al, .ref ar, .ref az, .ref ax, .ref ay, .int (nI nl), .int (nI nr)])), (f1, .inr (1, [.long (lN nt_P), .ref a1, .ref b1])), (f2, .inr (1, [.long (lN nt_Q), .ref a2, .ref b2])), (al, .inl (cI, 256, .inl lf)), (ar, .inl (cI, 256, .inl rf)), (az, .inl (cJ, 512, .inr (.inl Zf))), (ax, .inl (cJ, 512, .inr (.inl (vp_updL X' (i % 2 ^ b) (lI (nt_B i (fun i => i % 2 ^ b) (fun i => nt_sg tw (2 ^ b) i * (lf i).toInt) (i % 2 ^ b) + nt_sg tw (2 ^ b) i * (lf i).toInt)))))), (ay, .inl (cJ, 512, .inr (.inl Yf))), (a1, .inl (cJ, 512, .inr (.inl A1))), (b1, .inl (cJ, 512, .inr (.inl B1))), (a2, .inl (cJ, 512, .inr (.inl A2))), (b2, .inl (cJ, 512, .inr (.inl B2)))] H := hP
          have hD : va_D A [(hd, .inr (0, [.ref f1, .ref f2, .ref al, .ref ar, .ref az, .ref ax, .ref ay, .int (nI nl), .int (nI nr)])), (f1, .inr (1, [.long (lN nt_P), .ref a1, .ref b1])), (f2, .inr (1, [.long (lN nt_Q), .ref a2, .ref b2])), (al, .inl (cI, 256, .inl lf)), (ar, .inl (cI, 256, .inl rf)), (az, .inl (cJ, 512, .inr (.inl Zf))), (ax, .inl (cJ, 512, .inr (.inl (vp_updL X' (i % 2 ^ b) (lI (nt_B i (fun i => i % 2 ^ b) (fun i => nt_sg tw (2 ^ b) i * (lf i).toInt) (i % 2 ^ b) + nt_sg tw (2 ^ b) i * (lf i).toInt)))))), (ay, .inl (cJ, 512, .inr (.inl Yf))), (a1, .inl (cJ, 512, .inr (.inl A1))), (b1, .inl (cJ, 512, .inr (.inl B1))), (a2, .inl (cJ, 512, .inr (.inl A2))), (b2, .inl (cJ, 512, .inr (.inl B2)))] := hD
          refine lv_iinc (v := nI (i + 1)) (lv' := [(3, .int (nI (i + 1))), (0, .ref hd), (1, .int (nI (2 ^ b))), (2, .int (nI tw.toNat))]) hx hb dX0_fold_83 hl (k := 3) rfl (k_inc i) (by decide) rfl (fun ls hl => ?_)
          refine lv_goto (tgt := 31) hx hb dX0_fold_86 (by decide) ?_
          exact ih (i + 1) _ H locs ls (by omega) (by omega) hst hP hD hS (lv_sub hl [1, 2, 3, 0] rfl)
        · refine lv_aload_n hx hb dX0_fold_63 rfl (lv_at hl 0 rfl) ?_
          refine va_get (D := D) (ci := 0) (v := .ref al) (C := RX0) (T := TX0) (N := 9) hx hb hts in_X0 hown hK hP 0 rfl rfl 2 (by decide) (hts _ q41) (fun _ h9 => h9) rfl dX0_fold_64 ?_
          refine lv_iload_n hx hb dX0_fold_67 rfl (lv_at hl 3 rfl) ?_
          refine k_iald hx hb hK hP 3 0 rfl rfl (by omega) (by decide) dX0_fold_68 ?_
          refine lv_ineg hx hb dX0_fold_69 ?_
          refine lv_i2l (v := lI (-(lf i).toInt)) hx hb dX0_fold_70 (nt_neg32 (hsm i (by omega)).1) ?_
          refine lv_goto (tgt := 81) hx hb dX0_fold_71 (by decide) ?_
          refine k_tl (lI (nt_sg tw (2 ^ b) i * (lf i).toInt)) (by rw [nt_sg_m e5 c3, Int.neg_mul, Int.one_mul]) ?_
          refine lv_ladd hx hb dX0_fold_81  ?_
          refine k_tl (lI (nt_B i (fun i => i % 2 ^ b) (fun i => nt_sg tw (2 ^ b) i * (lf i).toInt) (i % 2 ^ b) + nt_sg tw (2 ^ b) i * (lf i).toInt)) (lI_add _ _) ?_
          refine k_last hx hb hK hP hD hS 6 1 rfl rfl (by omega) (by decide) dX0_fold_82 (fun H locs hP hD hS => ?_)
          have hP : va_P D vwCl [(hd, .inr (0, [.ref f1, .ref f2, .ref al, .ref ar, .ref az, .ref ax, .ref ay, .int (nI nl), .int (nI nr)])), (f1, .inr (1, [.long (lN nt_P), .ref a1, .ref b1])), (f2, .inr (1, [.long (lN nt_Q), .ref a2, .ref b2])), (al, .inl (cI, 256, .inl lf)), (ar, .inl (cI, 256, .inl rf)), (az, .inl (cJ, 512, .inr (.inl Zf))), (ax, .inl (cJ, 512, .inr (.inl (vp_updL X' (i % 2 ^ b) (lI (nt_B i (fun i => i % 2 ^ b) (fun i => nt_sg tw (2 ^ b) i * (lf i).toInt) (i % 2 ^ b) + nt_sg tw (2 ^ b) i * (lf i).toInt)))))), (ay, .inl (cJ, 512, .inr (.inl Yf))), (a1, .inl (cJ, 512, .inr (.inl A1))), (b1, .inl (cJ, 512, .inr (.inl B1))), (a2, .inl (cJ, 512, .inr (.inl A2))), (b2, .inl (cJ, 512, .inr (.inl B2)))] H := hP
          have hD : va_D A [(hd, .inr (0, [.ref f1, .ref f2, .ref al, .ref ar, .ref az, .ref ax, .ref ay, .int (nI nl), .int (nI nr)])), (f1, .inr (1, [.long (lN nt_P), .ref a1, .ref b1])), (f2, .inr (1, [.long (lN nt_Q), .ref a2, .ref b2])), (al, .inl (cI, 256, .inl lf)), (ar, .inl (cI, 256, .inl rf)), (az, .inl (cJ, 512, .inr (.inl Zf))), (ax, .inl (cJ, 512, .inr (.inl (vp_updL X' (i % 2 ^ b) (lI (nt_B i (fun i => i % 2 ^ b) (fun i => nt_sg tw (2 ^ b) i * (lf i).toInt) (i % 2 ^ b) + nt_sg tw (2 ^ b) i * (lf i).toInt)))))), (ay, .inl (cJ, 512, .inr (.inl Yf))), (a1, .inl (cJ, 512, .inr (.inl A1))), (b1, .inl (cJ, 512, .inr (.inl B1))), (a2, .inl (cJ, 512, .inr (.inl A2))), (b2, .inl (cJ, 512, .inr (.inl B2)))] := hD
          refine lv_iinc (v := nI (i + 1)) (lv' := [(3, .int (nI (i + 1))), (0, .ref hd), (1, .int (nI (2 ^ b))), (2, .int (nI tw.toNat))]) hx hb dX0_fold_83 hl (k := 3) rfl (k_inc i) (by decide) rfl (fun ls hl => ?_)
          refine lv_goto (tgt := 31) hx hb dX0_fold_86 (by decide) ?_
          exact ih (i + 1) _ H locs ls (by omega) (by omega) hst hP hD hS (lv_sub hl [1, 2, 3, 0] rfl)
set_option maxHeartbeats 4000000 in
set_option maxRecDepth 100000 in
theorem lp_foldy {p : Program} {l : Launch} {e : Env} {R : Room} {s : State} {m : MethodId} {args : Array Value} {below : List Frame} {meth : Method} {c : Code} {Q : State → Prop} {D : va_G} {cells slots : Nat} {A : Nat → Prop} {hd f1 f2 al ar az ax ay nl nr : Nat} {a1 b1 a2 b2 b : Nat} {tw : Bool} {cI cJ : ClassId} {lf rf : Nat → Int32} {Zf A1 B1 A2 B2 : Nat → Int64} {Xf : Nat → Int64} (C : k_C p s m args meth c yX0_fold cX0_fold 4 none) (hb9 : b ≤ 9) (hn : nr ≤ 256) (hsm : nt_sm rf) (hK : va_K D vwCl [(cI, .int), (cJ, .long)] s)
    (kk : ∀ (X' : Nat → Int64) (H : Heap) (locs : List Loc) (ls : Array Slot), (∀ k, k < 512 → X' k = lI (nt_B nr (fun i => i % 2 ^ b) (fun i => nt_sg tw (2 ^ b) i * (rf i).toInt) k)) → va_P D vwCl [(hd, .inr (0, [.ref f1, .ref f2, .ref al, .ref ar, .ref az, .ref ax, .ref ay, .int (nI nl), .int (nI nr)])), (f1, .inr (1, [.long (lN nt_P), .ref a1, .ref b1])), (f2, .inr (1, [.long (lN nt_Q), .ref a2, .ref b2])), (al, .inl (cI, 256, .inl lf)), (ar, .inl (cI, 256, .inl rf)), (az, .inl (cJ, 512, .inr (.inl Zf))), (ax, .inl (cJ, 512, .inr (.inl Xf))), (ay, .inl (cJ, 512, .inr (.inl X'))), (a1, .inl (cJ, 512, .inr (.inl A1))), (b1, .inl (cJ, 512, .inr (.inl B1))), (a2, .inl (cJ, 512, .inr (.inl A2))), (b2, .inl (cJ, 512, .inr (.inl B2)))] H → va_D A [(hd, .inr (0, [.ref f1, .ref f2, .ref al, .ref ar, .ref az, .ref ax, .ref ay, .int (nI nl), .int (nI nr)])), (f1, .inr (1, [.long (lN nt_P), .ref a1, .ref b1])), (f2, .inr (1, [.long (lN nt_Q), .ref a2, .ref b2])), (al, .inl (cI, 256, .inl lf)), (ar, .inl (cI, 256, .inl rf)), (az, .inl (cJ, 512, .inr (.inl Zf))), (ax, .inl (cJ, 512, .inr (.inl Xf))), (ay, .inl (cJ, 512, .inr (.inl X'))), (a1, .inl (cJ, 512, .inr (.inl A1))), (b1, .inl (cJ, 512, .inr (.inl B1))), (a2, .inl (cJ, 512, .inr (.inl A2))), (b2, .inl (cJ, 512, .inr (.inl B2)))] → va_S A s.heap H locs → lv_has ls 4 [(0, .ref hd), (1, .int (nI (2 ^ b))), (2, .int (nI tw.toNat))] → W p l e R s m args below meth c H locs cells slots Q (F0 m 149 ls [])) :
    ∀ (N i : Nat) (X' : Nat → Int64) (H : Heap) (locs : List Loc) (ls : Array Slot), nr < i + N → i ≤ nr → (∀ k, k < 512 → X' k = lI (nt_B i (fun i => i % 2 ^ b) (fun i => nt_sg tw (2 ^ b) i * (rf i).toInt) k)) → va_P D vwCl [(hd, .inr (0, [.ref f1, .ref f2, .ref al, .ref ar, .ref az, .ref ax, .ref ay, .int (nI nl), .int (nI nr)])), (f1, .inr (1, [.long (lN nt_P), .ref a1, .ref b1])), (f2, .inr (1, [.long (lN nt_Q), .ref a2, .ref b2])), (al, .inl (cI, 256, .inl lf)), (ar, .inl (cI, 256, .inl rf)), (az, .inl (cJ, 512, .inr (.inl Zf))), (ax, .inl (cJ, 512, .inr (.inl Xf))), (ay, .inl (cJ, 512, .inr (.inl X'))), (a1, .inl (cJ, 512, .inr (.inl A1))), (b1, .inl (cJ, 512, .inr (.inl B1))), (a2, .inl (cJ, 512, .inr (.inl A2))), (b2, .inl (cJ, 512, .inr (.inl B2)))] H → va_D A [(hd, .inr (0, [.ref f1, .ref f2, .ref al, .ref ar, .ref az, .ref ax, .ref ay, .int (nI nl), .int (nI nr)])), (f1, .inr (1, [.long (lN nt_P), .ref a1, .ref b1])), (f2, .inr (1, [.long (lN nt_Q), .ref a2, .ref b2])), (al, .inl (cI, 256, .inl lf)), (ar, .inl (cI, 256, .inl rf)), (az, .inl (cJ, 512, .inr (.inl Zf))), (ax, .inl (cJ, 512, .inr (.inl Xf))), (ay, .inl (cJ, 512, .inr (.inl X'))), (a1, .inl (cJ, 512, .inr (.inl A1))), (b1, .inl (cJ, 512, .inr (.inl B1))), (a2, .inl (cJ, 512, .inr (.inl A2))), (b2, .inl (cJ, 512, .inr (.inl B2)))] → va_S A s.heap H locs → lv_has ls 4 [(0, .ref hd), (1, .int (nI (2 ^ b))), (2, .int (nI tw.toNat)), (3, .int (nI i))] → W p l e R s m args below meth c H locs cells slots Q (F0 m 91 ls []) := by
  obtain ⟨hx, hb, hml, hr, hlocks, hown, hin, hts⟩ := id C
  have hown : s.vm.findClass RX0 = some m.cls := hown
  have hb2 := nt_2b hb9
  have hp2 : 0 < 2 ^ b := Nat.two_pow_pos b
  have htw : tw.toNat ≤ 1 := Bool.toNat_le tw
  intro N
  induction N with
  | zero => intro i X' H locs ls h1 h2; exact absurd h1 (by omega)
  | succ N ih =>
    intro i X' H locs ls h1 h2 hU hP hD hS hl
    refine lv_iload_n hx hb dX0_fold_91 rfl (lv_at hl 3 rfl) ?_
    refine lv_aload_n hx hb dX0_fold_92 rfl (lv_at hl 0 rfl) ?_
    refine va_get (D := D) (ci := 0) (v := .int (nI nr)) (C := RX0) (T := TX0) (N := 9) hx hb hts in_X0 hown hK hP 0 rfl rfl 8 (by decide) (hts _ q47) (fun _ h9 => h9) rfl dX0_fold_93 ?_
    refine k_icmp_ge (tgt := 149) hx hb dX0_fold_96 (by decide) (by omega) (by omega) (fun c1 => ?_) (fun c1 => ?_)
    · have e0 : i = nr := by omega
      rw [e0] at hU
      exact kk X' H locs ls hU hP hD hS (lv_sub hl [0, 1, 2] rfl)
    · have hm : i % 2 ^ b < 2 ^ b := Nat.mod_lt _ hp2
      have hdv : i / 2 ^ b ≤ i := Nat.div_le_self _ _
      have hst := nt_fold_step hU
      refine lv_aload_n hx hb dX0_fold_99 rfl (lv_at hl 0 rfl) ?_
      refine va_get (D := D) (ci := 0) (v := .ref ay) (C := RX0) (T := TX0) (N := 9) hx hb hts in_X0 hown hK hP 0 rfl rfl 6 (by decide) (hts _ q45) (fun _ h9 => h9) rfl dX0_fold_100 ?_
      refine lv_iload_n hx hb dX0_fold_103 rfl (lv_at hl 3 rfl) ?_
      refine lv_iload_n hx hb dX0_fold_104 rfl (lv_at hl 1 rfl) ?_
      refine lv_iconst (v := nI 1) hx hb dX0_fold_105 (by decide) ?_
      refine k_isub hx hb dX0_fold_106 (by omega) ?_
      refine lv_iand hx hb dX0_fold_107 ?_
      refine k_ti (nI (i % 2 ^ b)) (fa_mask i b) ?_
      refine lv_dup2_11 hx hb dX0_fold_108 rfl rfl ?_
      refine k_lald hx hb hK hP 7 1 rfl rfl (by omega) (by decide) dX0_fold_109 ?_
      refine k_tl (lI (nt_B i (fun i => i % 2 ^ b) (fun i => nt_sg tw (2 ^ b) i * (rf i).toInt) (i % 2 ^ b))) (hU _ (by omega)) ?_
      refine lv_iload_n hx hb dX0_fold_110 rfl (lv_at hl 2 rfl) ?_
      refine k_if_eq (tgt := 134) hx hb dX0_fold_111 (by decide) (by omega) (fun c2 => ?_) (fun c2 => ?_)
      · have e5 : tw = false := by cases tw with | false => rfl | true => exact absurd c2 (by decide)
        refine lv_aload_n hx hb dX0_fold_134 rfl (lv_at hl 0 rfl) ?_
        refine va_get (D := D) (ci := 0) (v := .ref ar) (C := RX0) (T := TX0) (N := 9) hx hb hts in_X0 hown hK hP 0 rfl rfl 3 (by decide) (hts _ q42) (fun _ h9 => h9) rfl dX0_fold_135 ?_
        refine lv_iload_n hx hb dX0_fold_138 rfl (lv_at hl 3 rfl) ?_
        refine k_iald hx hb hK hP 4 0 rfl rfl (by omega) (by decide) dX0_fold_139 ?_
        refine lv_i2l (v := lI (rf i).toInt) hx hb dX0_fold_140 (lI_i2l _) ?_
        refine k_tl (lI (nt_sg tw (2 ^ b) i * (rf i).toInt)) (by rw [nt_sg_1 (Or.inl e5), Int.one_mul]) ?_
        refine lv_ladd hx hb dX0_fold_141  ?_
        refine k_tl (lI (nt_B i (fun i => i % 2 ^ b) (fun i => nt_sg tw (2 ^ b) i * (rf i).toInt) (i % 2 ^ b) + nt_sg tw (2 ^ b) i * (rf i).toInt)) (lI_add _ _) ?_
        refine k_last hx hb hK hP hD hS 7 1 rfl rfl (by omega) (by decide) dX0_fold_142 (fun H locs hP hD hS => ?_)
        have hP : va_P D vwCl [(hd, .inr (0, [.ref f1, .ref f2, .ref al, .ref ar, .ref az, .ref ax, .ref ay, .int (nI nl), .int (nI nr)])), (f1, .inr (1, [.long (lN nt_P), .ref a1, .ref b1])), (f2, .inr (1, [.long (lN nt_Q), .ref a2, .ref b2])), (al, .inl (cI, 256, .inl lf)), (ar, .inl (cI, 256, .inl rf)), (az, .inl (cJ, 512, .inr (.inl Zf))), (ax, .inl (cJ, 512, .inr (.inl Xf))), (ay, .inl (cJ, 512, .inr (.inl (vp_updL X' (i % 2 ^ b) (lI (nt_B i (fun i => i % 2 ^ b) (fun i => nt_sg tw (2 ^ b) i * (rf i).toInt) (i % 2 ^ b) + nt_sg tw (2 ^ b) i * (rf i).toInt)))))), (a1, .inl (cJ, 512, .inr (.inl A1))), (b1, .inl (cJ, 512, .inr (.inl B1))), (a2, .inl (cJ, 512, .inr (.inl A2))), (b2, .inl (cJ, 512, .inr (.inl B2)))] H := hP
        have hD : va_D A [(hd, .inr (0, [.ref f1, .ref f2, .ref al, .ref ar, .ref az, .ref ax, .ref ay, .int (nI nl), .int (nI nr)])), (f1, .inr (1, [.long (lN nt_P), .ref a1, .ref b1])), (f2, .inr (1, [.long (lN nt_Q), .ref a2, .ref b2])), (al, .inl (cI, 256, .inl lf)), (ar, .inl (cI, 256, .inl rf)), (az, .inl (cJ, 512, .inr (.inl Zf))), (ax, .inl (cJ, 512, .inr (.inl Xf))), (ay, .inl (cJ, 512, .inr (.inl (vp_updL X' (i % 2 ^ b) (lI (nt_B i (fun i => i % 2 ^ b) (fun i => nt_sg tw (2 ^ b) i * (rf i).toInt) (i % 2 ^ b) + nt_sg tw (2 ^ b) i * (rf i).toInt)))))), (a1, .inl (cJ, 512, .inr (.inl A1))), (b1, .inl (cJ, 512, .inr (.inl B1))), (a2, .inl (cJ, 512, .inr (.inl A2))), (b2, .inl (cJ, 512, .inr (.inl B2)))] := hD
        refine lv_iinc (v := nI (i + 1)) (lv' := [(3, .int (nI (i + 1))), (0, .ref hd), (1, .int (nI (2 ^ b))), (2, .int (nI tw.toNat))]) hx hb dX0_fold_143 hl (k := 3) rfl (k_inc i) (by decide) rfl (fun ls hl => ?_)
        refine lv_goto (tgt := 91) hx hb dX0_fold_146 (by decide) ?_
        exact ih (i + 1) _ H locs ls (by omega) (by omega) hst hP hD hS (lv_sub hl [1, 2, 3, 0] rfl)
      · have e5 : tw = true := by cases tw with | false => exact absurd rfl c2 | true => rfl
        refine lv_iload_n hx hb dX0_fold_114 rfl (lv_at hl 3 rfl) ?_
        refine lv_iload_n hx hb dX0_fold_115 rfl (lv_at hl 1 rfl) ?_
        refine k_idiv hx hb dX0_fold_116 (by omega) (by omega) (by omega) ?_
        refine lv_iconst (v := nI 1) hx hb dX0_fold_117 (by decide) ?_
        refine lv_iand hx hb dX0_fold_118 ?_
        refine k_ti (nI (i / 2 ^ b % 2)) (k_iand1 _) ?_
        refine lv_iconst (v := nI 1) hx hb dX0_fold_119 (by decide) ?_
        refine k_icmp_ne (tgt := 134) hx hb dX0_fold_120 (by decide) (by omega) (by omega) (fun c3 => ?_) (fun c3 => ?_)
        · refine lv_aload_n hx hb dX0_fold_134 rfl (lv_at hl 0 rfl) ?_
          refine va_get (D := D) (ci := 0) (v := .ref ar) (C := RX0) (T := TX0) (N := 9) hx hb hts in_X0 hown hK hP 0 rfl rfl 3 (by decide) (hts _ q42) (fun _ h9 => h9) rfl dX0_fold_135 ?_
          refine lv_iload_n hx hb dX0_fold_138 rfl (lv_at hl 3 rfl) ?_
          refine k_iald hx hb hK hP 4 0 rfl rfl (by omega) (by decide) dX0_fold_139 ?_
          refine lv_i2l (v := lI (rf i).toInt) hx hb dX0_fold_140 (lI_i2l _) ?_
          refine k_tl (lI (nt_sg tw (2 ^ b) i * (rf i).toInt)) (by rw [nt_sg_1 (Or.inr c3), Int.one_mul]) ?_
          refine lv_ladd hx hb dX0_fold_141  ?_
          refine k_tl (lI (nt_B i (fun i => i % 2 ^ b) (fun i => nt_sg tw (2 ^ b) i * (rf i).toInt) (i % 2 ^ b) + nt_sg tw (2 ^ b) i * (rf i).toInt)) (lI_add _ _) ?_
          refine k_last hx hb hK hP hD hS 7 1 rfl rfl (by omega) (by decide) dX0_fold_142 (fun H locs hP hD hS => ?_)
          have hP : va_P D vwCl [(hd, .inr (0, [.ref f1, .ref f2, .ref al, .ref ar, .ref az, .ref ax, .ref ay, .int (nI nl), .int (nI nr)])), (f1, .inr (1, [.long (lN nt_P), .ref a1, .ref b1])), (f2, .inr (1, [.long (lN nt_Q), .ref a2, .ref b2])), (al, .inl (cI, 256, .inl lf)), (ar, .inl (cI, 256, .inl rf)), (az, .inl (cJ, 512, .inr (.inl Zf))), (ax, .inl (cJ, 512, .inr (.inl Xf))), (ay, .inl (cJ, 512, .inr (.inl (vp_updL X' (i % 2 ^ b) (lI (nt_B i (fun i => i % 2 ^ b) (fun i => nt_sg tw (2 ^ b) i * (rf i).toInt) (i % 2 ^ b) + nt_sg tw (2 ^ b) i * (rf i).toInt)))))), (a1, .inl (cJ, 512, .inr (.inl A1))), (b1, .inl (cJ, 512, .inr (.inl B1))), (a2, .inl (cJ, 512, .inr (.inl A2))), (b2, .inl (cJ, 512, .inr (.inl B2)))] H := hP
          have hD : va_D A [(hd, .inr (0, [.ref f1, .ref f2, .ref al, .ref ar, .ref az, .ref ax, .ref ay, .int (nI nl), .int (nI nr)])), (f1, .inr (1, [.long (lN nt_P), .ref a1, .ref b1])), (f2, .inr (1, [.long (lN nt_Q), .ref a2, .ref b2])), (al, .inl (cI, 256, .inl lf)), (ar, .inl (cI, 256, .inl rf)), (az, .inl (cJ, 512, .inr (.inl Zf))), (ax, .inl (cJ, 512, .inr (.inl Xf))), (ay, .inl (cJ, 512, .inr (.inl (vp_updL X' (i % 2 ^ b) (lI (nt_B i (fun i => i % 2 ^ b) (fun i => nt_sg tw (2 ^ b) i * (rf i).toInt) (i % 2 ^ b) + nt_sg tw (2 ^ b) i * (rf i).toInt)))))), (a1, .inl (cJ, 512, .inr (.inl A1))), (b1, .inl (cJ, 512, .inr (.inl B1))), (a2, .inl (cJ, 512, .inr (.inl A2))), (b2, .inl (cJ, 512, .inr (.inl B2)))] := hD
          refine lv_iinc (v := nI (i + 1)) (lv' := [(3, .int (nI (i + 1))), (0, .ref hd), (1, .int (nI (2 ^ b))), (2, .int (nI tw.toNat))]) hx hb dX0_fold_143 hl (k := 3) rfl (k_inc i) (by decide) rfl (fun ls hl => ?_)
          refine lv_goto (tgt := 91) hx hb dX0_fold_146 (by decide) ?_
          exact ih (i + 1) _ H locs ls (by omega) (by omega) hst hP hD hS (lv_sub hl [1, 2, 3, 0] rfl)
        · refine lv_aload_n hx hb dX0_fold_123 rfl (lv_at hl 0 rfl) ?_
          refine va_get (D := D) (ci := 0) (v := .ref ar) (C := RX0) (T := TX0) (N := 9) hx hb hts in_X0 hown hK hP 0 rfl rfl 3 (by decide) (hts _ q42) (fun _ h9 => h9) rfl dX0_fold_124 ?_
          refine lv_iload_n hx hb dX0_fold_127 rfl (lv_at hl 3 rfl) ?_
          refine k_iald hx hb hK hP 4 0 rfl rfl (by omega) (by decide) dX0_fold_128 ?_
          refine lv_ineg hx hb dX0_fold_129 ?_
          refine lv_i2l (v := lI (-(rf i).toInt)) hx hb dX0_fold_130 (nt_neg32 (hsm i (by omega)).1) ?_
          refine lv_goto (tgt := 141) hx hb dX0_fold_131 (by decide) ?_
          refine k_tl (lI (nt_sg tw (2 ^ b) i * (rf i).toInt)) (by rw [nt_sg_m e5 c3, Int.neg_mul, Int.one_mul]) ?_
          refine lv_ladd hx hb dX0_fold_141  ?_
          refine k_tl (lI (nt_B i (fun i => i % 2 ^ b) (fun i => nt_sg tw (2 ^ b) i * (rf i).toInt) (i % 2 ^ b) + nt_sg tw (2 ^ b) i * (rf i).toInt)) (lI_add _ _) ?_
          refine k_last hx hb hK hP hD hS 7 1 rfl rfl (by omega) (by decide) dX0_fold_142 (fun H locs hP hD hS => ?_)
          have hP : va_P D vwCl [(hd, .inr (0, [.ref f1, .ref f2, .ref al, .ref ar, .ref az, .ref ax, .ref ay, .int (nI nl), .int (nI nr)])), (f1, .inr (1, [.long (lN nt_P), .ref a1, .ref b1])), (f2, .inr (1, [.long (lN nt_Q), .ref a2, .ref b2])), (al, .inl (cI, 256, .inl lf)), (ar, .inl (cI, 256, .inl rf)), (az, .inl (cJ, 512, .inr (.inl Zf))), (ax, .inl (cJ, 512, .inr (.inl Xf))), (ay, .inl (cJ, 512, .inr (.inl (vp_updL X' (i % 2 ^ b) (lI (nt_B i (fun i => i % 2 ^ b) (fun i => nt_sg tw (2 ^ b) i * (rf i).toInt) (i % 2 ^ b) + nt_sg tw (2 ^ b) i * (rf i).toInt)))))), (a1, .inl (cJ, 512, .inr (.inl A1))), (b1, .inl (cJ, 512, .inr (.inl B1))), (a2, .inl (cJ, 512, .inr (.inl A2))), (b2, .inl (cJ, 512, .inr (.inl B2)))] H := hP
          have hD : va_D A [(hd, .inr (0, [.ref f1, .ref f2, .ref al, .ref ar, .ref az, .ref ax, .ref ay, .int (nI nl), .int (nI nr)])), (f1, .inr (1, [.long (lN nt_P), .ref a1, .ref b1])), (f2, .inr (1, [.long (lN nt_Q), .ref a2, .ref b2])), (al, .inl (cI, 256, .inl lf)), (ar, .inl (cI, 256, .inl rf)), (az, .inl (cJ, 512, .inr (.inl Zf))), (ax, .inl (cJ, 512, .inr (.inl Xf))), (ay, .inl (cJ, 512, .inr (.inl (vp_updL X' (i % 2 ^ b) (lI (nt_B i (fun i => i % 2 ^ b) (fun i => nt_sg tw (2 ^ b) i * (rf i).toInt) (i % 2 ^ b) + nt_sg tw (2 ^ b) i * (rf i).toInt)))))), (a1, .inl (cJ, 512, .inr (.inl A1))), (b1, .inl (cJ, 512, .inr (.inl B1))), (a2, .inl (cJ, 512, .inr (.inl A2))), (b2, .inl (cJ, 512, .inr (.inl B2)))] := hD
          refine lv_iinc (v := nI (i + 1)) (lv' := [(3, .int (nI (i + 1))), (0, .ref hd), (1, .int (nI (2 ^ b))), (2, .int (nI tw.toNat))]) hx hb dX0_fold_143 hl (k := 3) rfl (k_inc i) (by decide) rfl (fun ls hl => ?_)
          refine lv_goto (tgt := 91) hx hb dX0_fold_146 (by decide) ?_
          exact ih (i + 1) _ H locs ls (by omega) (by omega) hst hP hD hS (lv_sub hl [1, 2, 3, 0] rfl)
set_option maxHeartbeats 4000000 in
set_option maxRecDepth 100000 in
/-- fold(n, twisted) -/
theorem m_fold (l : Launch) (D : va_G) (hd f1 f2 al ar az ax ay nl nr : Nat) (a1 b1 a2 b2 : Nat) (cI cJ : ClassId) (lf rf : Nat → Int32) (Zf Xf Yf A1 B1 A2 B2 : Nat → Int64) (hn1 : nl ≤ 256) (hn2 : nr ≤ 256) (hsl : nt_sm lf) (hsr : nt_sm rf) (b : Nat) (tw : Bool) (hb9 : b ≤ 9) : k_Mv l yX0_fold cX0_fold 4 rk4 D [.ref hd, .int (nI (2 ^ b)), .int (nI tw.toNat)] [(hd, .inr (0, [.ref f1, .ref f2, .ref al, .ref ar, .ref az, .ref ax, .ref ay, .int (nI nl), .int (nI nr)])), (f1, .inr (1, [.long (lN nt_P), .ref a1, .ref b1])), (f2, .inr (1, [.long (lN nt_Q), .ref a2, .ref b2])), (al, .inl (cI, 256, .inl lf)), (ar, .inl (cI, 256, .inl rf)), (az, .inl (cJ, 512, .inr (.inl Zf))), (ax, .inl (cJ, 512, .inr (.inl Xf))), (ay, .inl (cJ, 512, .inr (.inl Yf))), (a1, .inl (cJ, 512, .inr (.inl A1))), (b1, .inl (cJ, 512, .inr (.inl B1))), (a2, .inl (cJ, 512, .inr (.inl A2))), (b2, .inl (cJ, 512, .inr (.inl B2)))] [(cI, .int), (cJ, .long)] (fun u : (Nat → Int64) × (Nat → Int64) × (Nat → Int64) × (Nat → Int64) × (Nat → Int64) × (Nat → Int64) × (Nat → Int64) => ∀ j, j < 512 → u.1 j = lI (nt_Z nl nr (fun i j => (i + j) % 2 ^ b) (fun i j => nt_sg tw (2 ^ b) (i + j) * (lf i).toInt * (rf j).toInt) j)) (fun (u : (Nat → Int64) × (Nat → Int64) × (Nat → Int64) × (Nat → Int64) × (Nat → Int64) × (Nat → Int64) × (Nat → Int64)) => [(hd, .inr (0, [.ref f1, .ref f2, .ref al, .ref ar, .ref az, .ref ax, .ref ay, .int (nI nl), .int (nI nr)])), (f1, .inr (1, [.long (lN nt_P), .ref a1, .ref b1])), (f2, .inr (1, [.long (lN nt_Q), .ref a2, .ref b2])), (al, .inl (cI, 256, .inl lf)), (ar, .inl (cI, 256, .inl rf)), (az, .inl (cJ, 512, .inr (.inl u.1))), (ax, .inl (cJ, 512, .inr (.inl u.2.1))), (ay, .inl (cJ, 512, .inr (.inl u.2.2.1))), (a1, .inl (cJ, 512, .inr (.inl u.2.2.2.1))), (b1, .inl (cJ, 512, .inr (.inl u.2.2.2.2.1))), (a2, .inl (cJ, 512, .inr (.inl u.2.2.2.2.2.1))), (b2, .inl (cJ, 512, .inr (.inl u.2.2.2.2.2.2)))]) (fun _ => [(cI, .int), (cJ, .long)]) 0 0 := by
  intro sz
  refine k_met (Qc := fun A => va_Qv (fun u : (Nat → Int64) × (Nat → Int64) × (Nat → Int64) × (Nat → Int64) × (Nat → Int64) × (Nat → Int64) × (Nat → Int64) => ∀ j, j < 512 → u.1 j = lI (nt_Z nl nr (fun i j => (i + j) % 2 ^ b) (fun i j => nt_sg tw (2 ^ b) (i + j) * (lf i).toInt * (rf j).toInt) j)) (fun (u : (Nat → Int64) × (Nat → Int64) × (Nat → Int64) × (Nat → Int64) × (Nat → Int64) × (Nat → Int64) × (Nat → Int64)) t => k_B D A [(hd, .inr (0, [.ref f1, .ref f2, .ref al, .ref ar, .ref az, .ref ax, .ref ay, .int (nI nl), .int (nI nr)])), (f1, .inr (1, [.long (lN nt_P), .ref a1, .ref b1])), (f2, .inr (1, [.long (lN nt_Q), .ref a2, .ref b2])), (al, .inl (cI, 256, .inl lf)), (ar, .inl (cI, 256, .inl rf)), (az, .inl (cJ, 512, .inr (.inl u.1))), (ax, .inl (cJ, 512, .inr (.inl u.2.1))), (ay, .inl (cJ, 512, .inr (.inl u.2.2.1))), (a1, .inl (cJ, 512, .inr (.inl u.2.2.2.1))), (b1, .inl (cJ, 512, .inr (.inl u.2.2.2.2.1))), (a2, .inl (cJ, 512, .inr (.inl u.2.2.2.2.2.1))), (b2, .inl (cJ, 512, .inr (.inl u.2.2.2.2.2.2)))] [(cI, .int), (cJ, .long)] t) A) (by decide) (Nat.le_of_ble_eq_true rfl) ?_
  intro p e s m below meth c A ls C hP hK hD hA hS hl
  obtain ⟨hx, hb, hml, hr, hlocks, hown, hin, hts⟩ := id C
  have hown : s.vm.findClass RX0 = some m.cls := hown
  have hp2 : 0 < 2 ^ b := Nat.two_pow_pos b
  have hb2 := nt_2b hb9
  have hl : lv_has ls 4 [(0, .ref hd), (1, .int (nI (2 ^ b))), (2, .int (nI tw.toNat))] := hl
  refine lv_iconst (v := nI 0) hx hb dX0_fold_0 (by decide) ?_
  refine lv_istore_n (lv' := [(3, .int (nI 0)), (0, .ref hd), (1, .int (nI (2 ^ b))), (2, .int (nI tw.toNat))]) hx hb dX0_fold_1 rfl hl (by decide) rfl (fun ls hl => ?_)
  refine lp_zero (b := b) (tw := tw) C hK (fun X1 Y1 H locs ls hU hV hP hD hS hl => ?_) 513 0 Xf Yf s.heap [] ls (by omega) (Nat.zero_le _) (nt_up_0 _ _) (nt_up_0 _ _) hP hD hS (lv_sub hl [1, 2, 3, 0] rfl)
  refine lv_iconst (v := nI 0) hx hb dX0_fold_29 (by decide) ?_
  refine lv_istore_n (lv' := [(3, .int (nI 0)), (0, .ref hd), (1, .int (nI (2 ^ b))), (2, .int (nI tw.toNat))]) hx hb dX0_fold_30 rfl hl (by decide) rfl (fun ls hl => ?_)
  refine lp_foldx (b := b) (tw := tw) C hb9 hn1 hsl hK (fun X2 H locs ls hX2 hP hD hS hl => ?_) (nl + 1) 0 X1 H locs ls (by omega) (Nat.zero_le _) (fun k hk => hU.1 k hk) hP hD hS (lv_sub hl [1, 2, 3, 0] rfl)
  refine lv_iconst (v := nI 0) hx hb dX0_fold_89 (by decide) ?_
  refine lv_istore_n (lv' := [(3, .int (nI 0)), (0, .ref hd), (1, .int (nI (2 ^ b))), (2, .int (nI tw.toNat))]) hx hb dX0_fold_90 rfl hl (by decide) rfl (fun ls hl => ?_)
  refine lp_foldy (b := b) (tw := tw) C hb9 hn2 hsr hK (fun Y2 H locs ls hY2 hP hD hS hl => ?_) (nr + 1) 0 Y1 H locs ls (by omega) (Nat.zero_le _) (fun k hk => hV.1 k hk) hP hD hS (lv_sub hl [1, 2, 3, 0] rfl)
  have bX : ∀ j, j < 2 ^ b → X2 j = lI ((nt_B nl (fun i => i % 2 ^ b) (fun i => nt_sg tw (2 ^ b) i * (lf i).toInt)) j) ∧ -(2 ^ 62) ≤ (nt_B nl (fun i => i % 2 ^ b) (fun i => nt_sg tw (2 ^ b) i * (lf i).toInt)) j ∧ (nt_B nl (fun i => i % 2 ^ b) (fun i => nt_sg tw (2 ^ b) i * (lf i).toInt)) j ≤ 2 ^ 62 := fun j hj => by
    have h1 := nt_B_bd hn1 (ix := fun i => i % 2 ^ b) (k := j) (B := 2 ^ 19) (by decide) (fun i hi => nt_sg_bd (tw := tw) (n := 2 ^ b) (i := i) (hsl i (by omega)))
    exact ⟨hX2 j (by omega), by omega, by omega⟩
  have bY : ∀ j, j < 2 ^ b → Y2 j = lI ((nt_B nr (fun i => i % 2 ^ b) (fun i => nt_sg tw (2 ^ b) i * (rf i).toInt)) j) ∧ -(2 ^ 62) ≤ (nt_B nr (fun i => i % 2 ^ b) (fun i => nt_sg tw (2 ^ b) i * (rf i).toInt)) j ∧ (nt_B nr (fun i => i % 2 ^ b) (fun i => nt_sg tw (2 ^ b) i * (rf i).toInt)) j ≤ 2 ^ 62 := fun j hj => by
    have h1 := nt_B_bd hn2 (ix := fun i => i % 2 ^ b) (k := j) (B := 2 ^ 19) (by decide) (fun i hi => nt_sg_bd (tw := tw) (n := 2 ^ b) (i := i) (hsr i (by omega)))
    exact ⟨hY2 j (by omega), by omega, by omega⟩
  have bZ : ∀ j, j < 2 ^ b → -(2 ^ 58) ≤ nt_Z nl nr (fun i j => (i + j) % 2 ^ b) (fun i j => nt_sg tw (2 ^ b) (i + j) * (lf i).toInt * (rf j).toInt) j ∧ nt_Z nl nr (fun i j => (i + j) % 2 ^ b) (fun i j => nt_sg tw (2 ^ b) (i + j) * (lf i).toInt * (rf j).toInt) j ≤ 2 ^ 58 := fun j hj => by
    have h1 := nt_Z_bd hn1 hn2 (ix := fun i j => (i + j) % 2 ^ b) (c := fun i j => nt_sg tw (2 ^ b) (i + j) * (lf i).toInt * (rf j).toInt) (k := j) (B := 2 ^ 19 * 2 ^ 19) (by decide) (fun i hi j hj => nt_prod_bd (nt_sg_bd (hsl i (by omega))) (hsr j (by omega)))
    omega
  refine lv_aload_n hx hb dX0_fold_149 rfl (lv_at hl 0 rfl) ?_
  refine lv_iload_n hx hb dX0_fold_150 rfl (lv_at hl 1 rfl) ?_
  refine lv_iload_n hx hb dX0_fold_151 rfl (lv_at hl 2 rfl) ?_
  refine k_cVv (own := RX0) (wr := [(al, .inl (cI, 256, .inl lf)), (ar, .inl (cI, 256, .inl rf))]) (wo := fun u5 => [(hd, .inr (0, [.ref f1, .ref f2, .ref al, .ref ar, .ref az, .ref ax, .ref ay, .int (nI nl), .int (nI nr)])), (f1, .inr (1, [.long (lN nt_P), .ref a1, .ref b1])), (f2, .inr (1, [.long (lN nt_Q), .ref a2, .ref b2])), (al, .inl (cI, 256, .inl lf)), (ar, .inl (cI, 256, .inl rf)), (az, .inl (cJ, 512, .inr (.inl u5.1))), (ax, .inl (cJ, 512, .inr (.inl X2))), (ay, .inl (cJ, 512, .inr (.inl Y2))), (a1, .inl (cJ, 512, .inr (.inl u5.2.1))), (b1, .inl (cJ, 512, .inr (.inl u5.2.2.1))), (a2, .inl (cJ, 512, .inr (.inl u5.2.2.2.1))), (b2, .inl (cJ, 512, .inr (.inl u5.2.2.2.2)))]) C rfl (m_mult l D hd f1 f2 al ar az ax ay nl nr a1 b1 a2 b2 b tw cJ X2 Y2 Zf A1 B1 A2 B2 (nt_B nl (fun i => i % 2 ^ b) (fun i => nt_sg tw (2 ^ b) i * (lf i).toInt)) (nt_B nr (fun i => i % 2 ^ b) (fun i => nt_sg tw (2 ^ b) i * (rf i).toInt)) (nt_Z nl nr (fun i j => (i + j) % 2 ^ b) (fun i j => nt_sg tw (2 ^ b) (i + j) * (lf i).toInt * (rf j).toInt)) hb9 bX bY bZ (fun p t ht => nt_fold_ok hp2 ht)) (cwV 2 hts (lw_V q91 q93 qs1 q8 q94) rfl rfl rfl (by decide +kernel) ⟨Nat.le_of_ble_eq_true rfl, Nat.le_of_ble_eq_true rfl⟩) hK hP hD hS hA 0 0 rfl rfl rfl [1] rfl [0, 1, 2, 5, 6, 7, 8, 9, 10, 11] [3, 4] rfl (by decide) rfl (by decide) (by decide) [2, 3, 4, 0, 1, 5, 6, 7, 8, 9, 10, 11] (fun _ => rfl) (by decide) rfl hl.1 rfl (Nat.le_of_ble_eq_true rfl) dX0_fold_152 ⟨Nat.zero_le _, Nat.zero_le _⟩ (fun u5 H locs hw5 hP hD hKn hS => ?_)
  have hP : va_P D vwCl [(hd, .inr (0, [.ref f1, .ref f2, .ref al, .ref ar, .ref az, .ref ax, .ref ay, .int (nI nl), .int (nI nr)])), (f1, .inr (1, [.long (lN nt_P), .ref a1, .ref b1])), (f2, .inr (1, [.long (lN nt_Q), .ref a2, .ref b2])), (al, .inl (cI, 256, .inl lf)), (ar, .inl (cI, 256, .inl rf)), (az, .inl (cJ, 512, .inr (.inl u5.1))), (ax, .inl (cJ, 512, .inr (.inl X2))), (ay, .inl (cJ, 512, .inr (.inl Y2))), (a1, .inl (cJ, 512, .inr (.inl u5.2.1))), (b1, .inl (cJ, 512, .inr (.inl u5.2.2.1))), (a2, .inl (cJ, 512, .inr (.inl u5.2.2.2.1))), (b2, .inl (cJ, 512, .inr (.inl u5.2.2.2.2)))] H := hP
  have hD : va_D A [(hd, .inr (0, [.ref f1, .ref f2, .ref al, .ref ar, .ref az, .ref ax, .ref ay, .int (nI nl), .int (nI nr)])), (f1, .inr (1, [.long (lN nt_P), .ref a1, .ref b1])), (f2, .inr (1, [.long (lN nt_Q), .ref a2, .ref b2])), (al, .inl (cI, 256, .inl lf)), (ar, .inl (cI, 256, .inl rf)), (az, .inl (cJ, 512, .inr (.inl u5.1))), (ax, .inl (cJ, 512, .inr (.inl X2))), (ay, .inl (cJ, 512, .inr (.inl Y2))), (a1, .inl (cJ, 512, .inr (.inl u5.2.1))), (b1, .inl (cJ, 512, .inr (.inl u5.2.2.1))), (a2, .inl (cJ, 512, .inr (.inl u5.2.2.2.1))), (b2, .inl (cJ, 512, .inr (.inl u5.2.2.2.2)))] := hD
  refine W.vret hx hb hr (fun t ht hW => ⟨⟨(u5.1, X2, Y2, u5.2.1, u5.2.2.1, u5.2.2.2.1, u5.2.2.2.2), rfl, fun j hj => ?_, by rw [ht]; exact hP, va_K.moved hW.alike hK, hD⟩, hS.F ht⟩) hS.2.2 dX0_fold_155
  refine (hw5 j hj).trans ?_
  rcases Nat.lt_or_ge j (2 ^ b) with q | q
  · rw [if_pos q]
  · rw [if_neg (by omega), nt_Z_out (fun i _ k _ => by have := Nat.mod_lt (i + k) hp2; omega)]
set_option maxHeartbeats 4000000 in
set_option maxRecDepth 100000 in
/-- product() -/
theorem m_product (l : Launch) (D : va_G) (hd f1 f2 al ar az ax ay nl nr : Nat) (a1 b1 a2 b2 : Nat) (cI cJ : ClassId) (lf rf : Nat → Int32) (Zf Xf Yf A1 B1 A2 B2 : Nat → Int64) (hn1 : nl ≤ 256) (hn2 : nr ≤ 256) (hsl : nt_sm lf) (hsr : nt_sm rf) : k_Mv l yX0_product cX0_product 1 rk4 D [.ref hd] [(hd, .inr (0, [.ref f1, .ref f2, .ref al, .ref ar, .ref az, .ref ax, .ref ay, .int (nI nl), .int (nI nr)])), (f1, .inr (1, [.long (lN nt_P), .ref a1, .ref b1])), (f2, .inr (1, [.long (lN nt_Q), .ref a2, .ref b2])), (al, .inl (cI, 256, .inl lf)), (ar, .inl (cI, 256, .inl rf)), (az, .inl (cJ, 512, .inr (.inl Zf))), (ax, .inl (cJ, 512, .inr (.inl Xf))), (ay, .inl (cJ, 512, .inr (.inl Yf))), (a1, .inl (cJ, 512, .inr (.inl A1))), (b1, .inl (cJ, 512, .inr (.inl B1))), (a2, .inl (cJ, 512, .inr (.inl A2))), (b2, .inl (cJ, 512, .inr (.inl B2)))] [(cI, .int), (cJ, .long)] (fun u : (Nat → Int64) × (Nat → Int64) × (Nat → Int64) × (Nat → Int64) × (Nat → Int64) × (Nat → Int64) × (Nat → Int64) => ∀ j, j < 512 → u.1 j = lI (nt_Z nl nr (fun i j => i + nt_di false j) (fun i j => (lf i).toInt * (rf j).toInt) j)) (fun (u : (Nat → Int64) × (Nat → Int64) × (Nat → Int64) × (Nat → Int64) × (Nat → Int64) × (Nat → Int64) × (Nat → Int64)) => [(hd, .inr (0, [.ref f1, .ref f2, .ref al, .ref ar, .ref az, .ref ax, .ref ay, .int (nI nl), .int (nI nr)])), (f1, .inr (1, [.long (lN nt_P), .ref a1, .ref b1])), (f2, .inr (1, [.long (lN nt_Q), .ref a2, .ref b2])), (al, .inl (cI, 256, .inl lf)), (ar, .inl (cI, 256, .inl rf)), (az, .inl (cJ, 512, .inr (.inl u.1))), (ax, .inl (cJ, 512, .inr (.inl u.2.1))), (ay, .inl (cJ, 512, .inr (.inl u.2.2.1))), (a1, .inl (cJ, 512, .inr (.inl u.2.2.2.1))), (b1, .inl (cJ, 512, .inr (.inl u.2.2.2.2.1))), (a2, .inl (cJ, 512, .inr (.inl u.2.2.2.2.2.1))), (b2, .inl (cJ, 512, .inr (.inl u.2.2.2.2.2.2)))]) (fun _ => [(cI, .int), (cJ, .long)]) 0 0 := by
  intro sz
  refine k_met (Qc := fun A => va_Qv (fun u : (Nat → Int64) × (Nat → Int64) × (Nat → Int64) × (Nat → Int64) × (Nat → Int64) × (Nat → Int64) × (Nat → Int64) => ∀ j, j < 512 → u.1 j = lI (nt_Z nl nr (fun i j => i + nt_di false j) (fun i j => (lf i).toInt * (rf j).toInt) j)) (fun (u : (Nat → Int64) × (Nat → Int64) × (Nat → Int64) × (Nat → Int64) × (Nat → Int64) × (Nat → Int64) × (Nat → Int64)) t => k_B D A [(hd, .inr (0, [.ref f1, .ref f2, .ref al, .ref ar, .ref az, .ref ax, .ref ay, .int (nI nl), .int (nI nr)])), (f1, .inr (1, [.long (lN nt_P), .ref a1, .ref b1])), (f2, .inr (1, [.long (lN nt_Q), .ref a2, .ref b2])), (al, .inl (cI, 256, .inl lf)), (ar, .inl (cI, 256, .inl rf)), (az, .inl (cJ, 512, .inr (.inl u.1))), (ax, .inl (cJ, 512, .inr (.inl u.2.1))), (ay, .inl (cJ, 512, .inr (.inl u.2.2.1))), (a1, .inl (cJ, 512, .inr (.inl u.2.2.2.1))), (b1, .inl (cJ, 512, .inr (.inl u.2.2.2.2.1))), (a2, .inl (cJ, 512, .inr (.inl u.2.2.2.2.2.1))), (b2, .inl (cJ, 512, .inr (.inl u.2.2.2.2.2.2)))] [(cI, .int), (cJ, .long)] t) A) (by decide) (Nat.le_of_ble_eq_true rfl) ?_
  intro p e s m below meth c A ls C hP hK hD hA hS hl
  obtain ⟨hx, hb, hml, hr, hlocks, hown, hin, hts⟩ := id C
  have hown : s.vm.findClass RX0 = some m.cls := hown
  have hl : lv_has ls 1 [(0, .ref hd)] := hl
  refine lv_aload_n hx hb dX0_product_0 rfl (lv_at hl 0 rfl) ?_
  refine lv_iconst (v := nI 0) hx hb dX0_product_1 (by decide) ?_
  refine k_cVv (own := RX0) (wr := [(f1, .inr (1, [.long (lN nt_P), .ref a1, .ref b1])), (f2, .inr (1, [.long (lN nt_Q), .ref a2, .ref b2])), (az, .inl (cJ, 512, .inr (.inl Zf))), (a1, .inl (cJ, 512, .inr (.inl A1))), (b1, .inl (cJ, 512, .inr (.inl B1))), (a2, .inl (cJ, 512, .inr (.inl A2))), (b2, .inl (cJ, 512, .inr (.inl B2)))]) (wo := fun u2 => [(hd, .inr (0, [.ref f1, .ref f2, .ref al, .ref ar, .ref az, .ref ax, .ref ay, .int (nI nl), .int (nI nr)])), (f1, .inr (1, [.long (lN nt_P), .ref a1, .ref b1])), (f2, .inr (1, [.long (lN nt_Q), .ref a2, .ref b2])), (al, .inl (cI, 256, .inl lf)), (ar, .inl (cI, 256, .inl rf)), (az, .inl (cJ, 512, .inr (.inl Zf))), (ax, .inl (cJ, 512, .inr (.inl u2.1))), (ay, .inl (cJ, 512, .inr (.inl u2.2))), (a1, .inl (cJ, 512, .inr (.inl A1))), (b1, .inl (cJ, 512, .inr (.inl B1))), (a2, .inl (cJ, 512, .inr (.inl A2))), (b2, .inl (cJ, 512, .inr (.inl B2)))]) C rfl (m_lay l D hd f1 f2 al ar az ax ay nl nr cI cJ lf rf Xf Yf false hn1 hn2) (cwV 1 hts (lw_V q87 q89 qs0 q8 q90) rfl rfl rfl (by decide +kernel) ⟨Nat.le_of_ble_eq_true rfl, Nat.le_of_ble_eq_true rfl⟩) hK hP hD hS hA 0 0 rfl rfl rfl [0, 1] rfl [0, 3, 4, 6, 7] [1, 2, 5, 8, 9, 10, 11] rfl (by decide) rfl (by decide) (by decide) [7, 0, 1, 8, 9, 2, 10, 11, 3, 4, 5, 6] (fun _ => rfl) (by decide) rfl hl.1 rfl (Nat.le_of_ble_eq_true rfl) dX0_product_2 ⟨Nat.zero_le _, Nat.zero_le _⟩ (fun u2 H locs hw2 hP hD hKn hS => ?_)
  have hP : va_P D vwCl [(hd, .inr (0, [.ref f1, .ref f2, .ref al, .ref ar, .ref az, .ref ax, .ref ay, .int (nI nl), .int (nI nr)])), (f1, .inr (1, [.long (lN nt_P), .ref a1, .ref b1])), (f2, .inr (1, [.long (lN nt_Q), .ref a2, .ref b2])), (al, .inl (cI, 256, .inl lf)), (ar, .inl (cI, 256, .inl rf)), (az, .inl (cJ, 512, .inr (.inl Zf))), (ax, .inl (cJ, 512, .inr (.inl u2.1))), (ay, .inl (cJ, 512, .inr (.inl u2.2))), (a1, .inl (cJ, 512, .inr (.inl A1))), (b1, .inl (cJ, 512, .inr (.inl B1))), (a2, .inl (cJ, 512, .inr (.inl A2))), (b2, .inl (cJ, 512, .inr (.inl B2)))] H := hP
  have hD : va_D A [(hd, .inr (0, [.ref f1, .ref f2, .ref al, .ref ar, .ref az, .ref ax, .ref ay, .int (nI nl), .int (nI nr)])), (f1, .inr (1, [.long (lN nt_P), .ref a1, .ref b1])), (f2, .inr (1, [.long (lN nt_Q), .ref a2, .ref b2])), (al, .inl (cI, 256, .inl lf)), (ar, .inl (cI, 256, .inl rf)), (az, .inl (cJ, 512, .inr (.inl Zf))), (ax, .inl (cJ, 512, .inr (.inl u2.1))), (ay, .inl (cJ, 512, .inr (.inl u2.2))), (a1, .inl (cJ, 512, .inr (.inl A1))), (b1, .inl (cJ, 512, .inr (.inl B1))), (a2, .inl (cJ, 512, .inr (.inl A2))), (b2, .inl (cJ, 512, .inr (.inl B2)))] := hD
  have bX : ∀ j, j < 2 ^ 9 → u2.1 j = lI ((nt_B nl (fun i => i) (fun i => (lf i).toInt)) j) ∧ -(2 ^ 62) ≤ (nt_B nl (fun i => i) (fun i => (lf i).toInt)) j ∧ (nt_B nl (fun i => i) (fun i => (lf i).toInt)) j ≤ 2 ^ 62 := fun j hj => by
    have h1 := nt_B_bd hn1 (ix := fun i => i) (c := fun i => (lf i).toInt) (k := j) (B := 2 ^ 19) (by decide) (fun i hi => hsl i (by omega))
    exact ⟨hw2.1 j hj, by omega, by omega⟩
  have bY : ∀ j, j < 2 ^ 9 → u2.2 j = lI ((nt_B nr (nt_di false) (fun i => (rf i).toInt)) j) ∧ -(2 ^ 62) ≤ (nt_B nr (nt_di false) (fun i => (rf i).toInt)) j ∧ (nt_B nr (nt_di false) (fun i => (rf i).toInt)) j ≤ 2 ^ 62 := fun j hj => by
    have h1 := nt_B_bd hn2 (ix := nt_di false) (c := fun i => (rf i).toInt) (k := j) (B := 2 ^ 19) (by decide) (fun i hi => hsr i (by omega))
    exact ⟨hw2.2 j hj, by omega, by omega⟩
  have bZ : ∀ j, j < 2 ^ 9 → -(2 ^ 58) ≤ nt_Z nl nr (fun i j => i + nt_di false j) (fun i j => (lf i).toInt * (rf j).toInt) j ∧ nt_Z nl nr (fun i j => i + nt_di false j) (fun i j => (lf i).toInt * (rf j).toInt) j ≤ 2 ^ 58 := fun j hj => by
    have h1 := nt_Z_bd hn1 hn2 (ix := fun i j => i + nt_di false j) (c := fun i j => (lf i).toInt * (rf j).toInt) (k := j) (B := 2 ^ 19 * 2 ^ 19) (by decide) (fun i hi j hj => nt_prod_bd (hsl i (by omega)) (hsr j (by omega)))
    omega
  refine lv_aload_n hx hb dX0_product_5 rfl (lv_at hl 0 rfl) ?_
  refine lv_sipush (v := nI 512) hx hb dX0_product_6 (by decide) ?_
  refine lv_iconst (v := nI 0) hx hb dX0_product_9 (by decide) ?_
  refine k_cVv (own := RX0) (wr := [(al, .inl (cI, 256, .inl lf)), (ar, .inl (cI, 256, .inl rf))]) (wo := fun u5 => [(hd, .inr (0, [.ref f1, .ref f2, .ref al, .ref ar, .ref az, .ref ax, .ref ay, .int (nI nl), .int (nI nr)])), (f1, .inr (1, [.long (lN nt_P), .ref a1, .ref b1])), (f2, .inr (1, [.long (lN nt_Q), .ref a2, .ref b2])), (al, .inl (cI, 256, .inl lf)), (ar, .inl (cI, 256, .inl rf)), (az, .inl (cJ, 512, .inr (.inl u5.1))), (ax, .inl (cJ, 512, .inr (.inl u2.1))), (ay, .inl (cJ, 512, .inr (.inl u2.2))), (a1, .inl (cJ, 512, .inr (.inl u5.2.1))), (b1, .inl (cJ, 512, .inr (.inl u5.2.2.1))), (a2, .inl (cJ, 512, .inr (.inl u5.2.2.2.1))), (b2, .inl (cJ, 512, .inr (.inl u5.2.2.2.2)))]) C rfl (m_mult l D hd f1 f2 al ar az ax ay nl nr a1 b1 a2 b2 9 false cJ u2.1 u2.2 Zf A1 B1 A2 B2 (nt_B nl (fun i => i) (fun i => (lf i).toInt)) (nt_B nr (nt_di false) (fun i => (rf i).toInt)) (nt_Z nl nr (fun i j => i + nt_di false j) (fun i j => (lf i).toInt * (rf j).toInt)) (by decide) bX bY bZ (fun p t _ => nt_lay_ok false hn1 hn2 t)) (cwV 2 hts (lw_V q91 q93 qs1 q8 q94) rfl rfl rfl (by decide +kernel) ⟨Nat.le_of_ble_eq_true rfl, Nat.le_of_ble_eq_true rfl⟩) hK hP hD hS hA 0 0 rfl rfl rfl [1] rfl [0, 1, 2, 5, 6, 7, 8, 9, 10, 11] [3, 4] rfl (by decide) rfl (by decide) (by decide) [2, 3, 4, 0, 1, 5, 6, 7, 8, 9, 10, 11] (fun _ => rfl) (by decide) rfl hl.1 rfl (Nat.le_of_ble_eq_true rfl) dX0_product_10 ⟨Nat.zero_le _, Nat.zero_le _⟩ (fun u5 H locs hw5 hP hD hKn hS => ?_)
  have hP : va_P D vwCl [(hd, .inr (0, [.ref f1, .ref f2, .ref al, .ref ar, .ref az, .ref ax, .ref ay, .int (nI nl), .int (nI nr)])), (f1, .inr (1, [.long (lN nt_P), .ref a1, .ref b1])), (f2, .inr (1, [.long (lN nt_Q), .ref a2, .ref b2])), (al, .inl (cI, 256, .inl lf)), (ar, .inl (cI, 256, .inl rf)), (az, .inl (cJ, 512, .inr (.inl u5.1))), (ax, .inl (cJ, 512, .inr (.inl u2.1))), (ay, .inl (cJ, 512, .inr (.inl u2.2))), (a1, .inl (cJ, 512, .inr (.inl u5.2.1))), (b1, .inl (cJ, 512, .inr (.inl u5.2.2.1))), (a2, .inl (cJ, 512, .inr (.inl u5.2.2.2.1))), (b2, .inl (cJ, 512, .inr (.inl u5.2.2.2.2)))] H := hP
  have hD : va_D A [(hd, .inr (0, [.ref f1, .ref f2, .ref al, .ref ar, .ref az, .ref ax, .ref ay, .int (nI nl), .int (nI nr)])), (f1, .inr (1, [.long (lN nt_P), .ref a1, .ref b1])), (f2, .inr (1, [.long (lN nt_Q), .ref a2, .ref b2])), (al, .inl (cI, 256, .inl lf)), (ar, .inl (cI, 256, .inl rf)), (az, .inl (cJ, 512, .inr (.inl u5.1))), (ax, .inl (cJ, 512, .inr (.inl u2.1))), (ay, .inl (cJ, 512, .inr (.inl u2.2))), (a1, .inl (cJ, 512, .inr (.inl u5.2.1))), (b1, .inl (cJ, 512, .inr (.inl u5.2.2.1))), (a2, .inl (cJ, 512, .inr (.inl u5.2.2.2.1))), (b2, .inl (cJ, 512, .inr (.inl u5.2.2.2.2)))] := hD
  exact W.vret hx hb hr (fun t ht hW => ⟨⟨(u5.1, u2.1, u2.2, u5.2.1, u5.2.2.1, u5.2.2.2.1, u5.2.2.2.2), rfl, fun j hj => (hw5 j hj).trans (by rw [if_pos (show j < 2 ^ 9 from hj)]), by rw [ht]; exact hP, va_K.moved hW.alike hK, hD⟩, hS.F ht⟩) hS.2.2 dX0_product_13
set_option maxHeartbeats 4000000 in
set_option maxRecDepth 100000 in
/-- likeness() -/
theorem m_likeness (l : Launch) (D : va_G) (hd f1 f2 al ar az ax ay nl nr : Nat) (a1 b1 a2 b2 : Nat) (cI cJ : ClassId) (lf rf : Nat → Int32) (Zf Xf Yf A1 B1 A2 B2 : Nat → Int64) (hn1 : nl ≤ 256) (hn2 : nr ≤ 256) (hsl : nt_sm lf) (hsr : nt_sm rf) : k_Mv l yX0_likeness cX0_likeness 1 rk4 D [.ref hd] [(hd, .inr (0, [.ref f1, .ref f2, .ref al, .ref ar, .ref az, .ref ax, .ref ay, .int (nI nl), .int (nI nr)])), (f1, .inr (1, [.long (lN nt_P), .ref a1, .ref b1])), (f2, .inr (1, [.long (lN nt_Q), .ref a2, .ref b2])), (al, .inl (cI, 256, .inl lf)), (ar, .inl (cI, 256, .inl rf)), (az, .inl (cJ, 512, .inr (.inl Zf))), (ax, .inl (cJ, 512, .inr (.inl Xf))), (ay, .inl (cJ, 512, .inr (.inl Yf))), (a1, .inl (cJ, 512, .inr (.inl A1))), (b1, .inl (cJ, 512, .inr (.inl B1))), (a2, .inl (cJ, 512, .inr (.inl A2))), (b2, .inl (cJ, 512, .inr (.inl B2)))] [(cI, .int), (cJ, .long)] (fun u : (Nat → Int64) × (Nat → Int64) × (Nat → Int64) × (Nat → Int64) × (Nat → Int64) × (Nat → Int64) × (Nat → Int64) => ∀ j, j < 512 → u.1 j = lI (nt_Z nl nr (fun i j => i + nt_di true j) (fun i j => (lf i).toInt * (rf j).toInt) j)) (fun (u : (Nat → Int64) × (Nat → Int64) × (Nat → Int64) × (Nat → Int64) × (Nat → Int64) × (Nat → Int64) × (Nat → Int64)) => [(hd, .inr (0, [.ref f1, .ref f2, .ref al, .ref ar, .ref az, .ref ax, .ref ay, .int (nI nl), .int (nI nr)])), (f1, .inr (1, [.long (lN nt_P), .ref a1, .ref b1])), (f2, .inr (1, [.long (lN nt_Q), .ref a2, .ref b2])), (al, .inl (cI, 256, .inl lf)), (ar, .inl (cI, 256, .inl rf)), (az, .inl (cJ, 512, .inr (.inl u.1))), (ax, .inl (cJ, 512, .inr (.inl u.2.1))), (ay, .inl (cJ, 512, .inr (.inl u.2.2.1))), (a1, .inl (cJ, 512, .inr (.inl u.2.2.2.1))), (b1, .inl (cJ, 512, .inr (.inl u.2.2.2.2.1))), (a2, .inl (cJ, 512, .inr (.inl u.2.2.2.2.2.1))), (b2, .inl (cJ, 512, .inr (.inl u.2.2.2.2.2.2)))]) (fun _ => [(cI, .int), (cJ, .long)]) 0 0 := by
  intro sz
  refine k_met (Qc := fun A => va_Qv (fun u : (Nat → Int64) × (Nat → Int64) × (Nat → Int64) × (Nat → Int64) × (Nat → Int64) × (Nat → Int64) × (Nat → Int64) => ∀ j, j < 512 → u.1 j = lI (nt_Z nl nr (fun i j => i + nt_di true j) (fun i j => (lf i).toInt * (rf j).toInt) j)) (fun (u : (Nat → Int64) × (Nat → Int64) × (Nat → Int64) × (Nat → Int64) × (Nat → Int64) × (Nat → Int64) × (Nat → Int64)) t => k_B D A [(hd, .inr (0, [.ref f1, .ref f2, .ref al, .ref ar, .ref az, .ref ax, .ref ay, .int (nI nl), .int (nI nr)])), (f1, .inr (1, [.long (lN nt_P), .ref a1, .ref b1])), (f2, .inr (1, [.long (lN nt_Q), .ref a2, .ref b2])), (al, .inl (cI, 256, .inl lf)), (ar, .inl (cI, 256, .inl rf)), (az, .inl (cJ, 512, .inr (.inl u.1))), (ax, .inl (cJ, 512, .inr (.inl u.2.1))), (ay, .inl (cJ, 512, .inr (.inl u.2.2.1))), (a1, .inl (cJ, 512, .inr (.inl u.2.2.2.1))), (b1, .inl (cJ, 512, .inr (.inl u.2.2.2.2.1))), (a2, .inl (cJ, 512, .inr (.inl u.2.2.2.2.2.1))), (b2, .inl (cJ, 512, .inr (.inl u.2.2.2.2.2.2)))] [(cI, .int), (cJ, .long)] t) A) (by decide) (Nat.le_of_ble_eq_true rfl) ?_
  intro p e s m below meth c A ls C hP hK hD hA hS hl
  obtain ⟨hx, hb, hml, hr, hlocks, hown, hin, hts⟩ := id C
  have hown : s.vm.findClass RX0 = some m.cls := hown
  have hl : lv_has ls 1 [(0, .ref hd)] := hl
  refine lv_aload_n hx hb dX0_likeness_0 rfl (lv_at hl 0 rfl) ?_
  refine lv_iconst (v := nI 1) hx hb dX0_likeness_1 (by decide) ?_
  refine k_cVv (own := RX0) (wr := [(f1, .inr (1, [.long (lN nt_P), .ref a1, .ref b1])), (f2, .inr (1, [.long (lN nt_Q), .ref a2, .ref b2])), (az, .inl (cJ, 512, .inr (.inl Zf))), (a1, .inl (cJ, 512, .inr (.inl A1))), (b1, .inl (cJ, 512, .inr (.inl B1))), (a2, .inl (cJ, 512, .inr (.inl A2))), (b2, .inl (cJ, 512, .inr (.inl B2)))]) (wo := fun u2 => [(hd, .inr (0, [.ref f1, .ref f2, .ref al, .ref ar, .ref az, .ref ax, .ref ay, .int (nI nl), .int (nI nr)])), (f1, .inr (1, [.long (lN nt_P), .ref a1, .ref b1])), (f2, .inr (1, [.long (lN nt_Q), .ref a2, .ref b2])), (al, .inl (cI, 256, .inl lf)), (ar, .inl (cI, 256, .inl rf)), (az, .inl (cJ, 512, .inr (.inl Zf))), (ax, .inl (cJ, 512, .inr (.inl u2.1))), (ay, .inl (cJ, 512, .inr (.inl u2.2))), (a1, .inl (cJ, 512, .inr (.inl A1))), (b1, .inl (cJ, 512, .inr (.inl B1))), (a2, .inl (cJ, 512, .inr (.inl A2))), (b2, .inl (cJ, 512, .inr (.inl B2)))]) C rfl (m_lay l D hd f1 f2 al ar az ax ay nl nr cI cJ lf rf Xf Yf true hn1 hn2) (cwV 1 hts (lw_V q87 q89 qs0 q8 q90) rfl rfl rfl (by decide +kernel) ⟨Nat.le_of_ble_eq_true rfl, Nat.le_of_ble_eq_true rfl⟩) hK hP hD hS hA 0 0 rfl rfl rfl [0, 1] rfl [0, 3, 4, 6, 7] [1, 2, 5, 8, 9, 10, 11] rfl (by decide) rfl (by decide) (by decide) [7, 0, 1, 8, 9, 2, 10, 11, 3, 4, 5, 6] (fun _ => rfl) (by decide) rfl hl.1 rfl (Nat.le_of_ble_eq_true rfl) dX0_likeness_2 ⟨Nat.zero_le _, Nat.zero_le _⟩ (fun u2 H locs hw2 hP hD hKn hS => ?_)
  have hP : va_P D vwCl [(hd, .inr (0, [.ref f1, .ref f2, .ref al, .ref ar, .ref az, .ref ax, .ref ay, .int (nI nl), .int (nI nr)])), (f1, .inr (1, [.long (lN nt_P), .ref a1, .ref b1])), (f2, .inr (1, [.long (lN nt_Q), .ref a2, .ref b2])), (al, .inl (cI, 256, .inl lf)), (ar, .inl (cI, 256, .inl rf)), (az, .inl (cJ, 512, .inr (.inl Zf))), (ax, .inl (cJ, 512, .inr (.inl u2.1))), (ay, .inl (cJ, 512, .inr (.inl u2.2))), (a1, .inl (cJ, 512, .inr (.inl A1))), (b1, .inl (cJ, 512, .inr (.inl B1))), (a2, .inl (cJ, 512, .inr (.inl A2))), (b2, .inl (cJ, 512, .inr (.inl B2)))] H := hP
  have hD : va_D A [(hd, .inr (0, [.ref f1, .ref f2, .ref al, .ref ar, .ref az, .ref ax, .ref ay, .int (nI nl), .int (nI nr)])), (f1, .inr (1, [.long (lN nt_P), .ref a1, .ref b1])), (f2, .inr (1, [.long (lN nt_Q), .ref a2, .ref b2])), (al, .inl (cI, 256, .inl lf)), (ar, .inl (cI, 256, .inl rf)), (az, .inl (cJ, 512, .inr (.inl Zf))), (ax, .inl (cJ, 512, .inr (.inl u2.1))), (ay, .inl (cJ, 512, .inr (.inl u2.2))), (a1, .inl (cJ, 512, .inr (.inl A1))), (b1, .inl (cJ, 512, .inr (.inl B1))), (a2, .inl (cJ, 512, .inr (.inl A2))), (b2, .inl (cJ, 512, .inr (.inl B2)))] := hD
  have bX : ∀ j, j < 2 ^ 9 → u2.1 j = lI ((nt_B nl (fun i => i) (fun i => (lf i).toInt)) j) ∧ -(2 ^ 62) ≤ (nt_B nl (fun i => i) (fun i => (lf i).toInt)) j ∧ (nt_B nl (fun i => i) (fun i => (lf i).toInt)) j ≤ 2 ^ 62 := fun j hj => by
    have h1 := nt_B_bd hn1 (ix := fun i => i) (c := fun i => (lf i).toInt) (k := j) (B := 2 ^ 19) (by decide) (fun i hi => hsl i (by omega))
    exact ⟨hw2.1 j hj, by omega, by omega⟩
  have bY : ∀ j, j < 2 ^ 9 → u2.2 j = lI ((nt_B nr (nt_di true) (fun i => (rf i).toInt)) j) ∧ -(2 ^ 62) ≤ (nt_B nr (nt_di true) (fun i => (rf i).toInt)) j ∧ (nt_B nr (nt_di true) (fun i => (rf i).toInt)) j ≤ 2 ^ 62 := fun j hj => by
    have h1 := nt_B_bd hn2 (ix := nt_di true) (c := fun i => (rf i).toInt) (k := j) (B := 2 ^ 19) (by decide) (fun i hi => hsr i (by omega))
    exact ⟨hw2.2 j hj, by omega, by omega⟩
  have bZ : ∀ j, j < 2 ^ 9 → -(2 ^ 58) ≤ nt_Z nl nr (fun i j => i + nt_di true j) (fun i j => (lf i).toInt * (rf j).toInt) j ∧ nt_Z nl nr (fun i j => i + nt_di true j) (fun i j => (lf i).toInt * (rf j).toInt) j ≤ 2 ^ 58 := fun j hj => by
    have h1 := nt_Z_bd hn1 hn2 (ix := fun i j => i + nt_di true j) (c := fun i j => (lf i).toInt * (rf j).toInt) (k := j) (B := 2 ^ 19 * 2 ^ 19) (by decide) (fun i hi j hj => nt_prod_bd (hsl i (by omega)) (hsr j (by omega)))
    omega
  refine lv_aload_n hx hb dX0_likeness_5 rfl (lv_at hl 0 rfl) ?_
  refine lv_sipush (v := nI 512) hx hb dX0_likeness_6 (by decide) ?_
  refine lv_iconst (v := nI 0) hx hb dX0_likeness_9 (by decide) ?_
  refine k_cVv (own := RX0) (wr := [(al, .inl (cI, 256, .inl lf)), (ar, .inl (cI, 256, .inl rf))]) (wo := fun u5 => [(hd, .inr (0, [.ref f1, .ref f2, .ref al, .ref ar, .ref az, .ref ax, .ref ay, .int (nI nl), .int (nI nr)])), (f1, .inr (1, [.long (lN nt_P), .ref a1, .ref b1])), (f2, .inr (1, [.long (lN nt_Q), .ref a2, .ref b2])), (al, .inl (cI, 256, .inl lf)), (ar, .inl (cI, 256, .inl rf)), (az, .inl (cJ, 512, .inr (.inl u5.1))), (ax, .inl (cJ, 512, .inr (.inl u2.1))), (ay, .inl (cJ, 512, .inr (.inl u2.2))), (a1, .inl (cJ, 512, .inr (.inl u5.2.1))), (b1, .inl (cJ, 512, .inr (.inl u5.2.2.1))), (a2, .inl (cJ, 512, .inr (.inl u5.2.2.2.1))), (b2, .inl (cJ, 512, .inr (.inl u5.2.2.2.2)))]) C rfl (m_mult l D hd f1 f2 al ar az ax ay nl nr a1 b1 a2 b2 9 false cJ u2.1 u2.2 Zf A1 B1 A2 B2 (nt_B nl (fun i => i) (fun i => (lf i).toInt)) (nt_B nr (nt_di true) (fun i => (rf i).toInt)) (nt_Z nl nr (fun i j => i + nt_di true j) (fun i j => (lf i).toInt * (rf j).toInt)) (by decide) bX bY bZ (fun p t _ => nt_lay_ok true hn1 hn2 t)) (cwV 2 hts (lw_V q91 q93 qs1 q8 q94) rfl rfl rfl (by decide +kernel) ⟨Nat.le_of_ble_eq_true rfl, Nat.le_of_ble_eq_true rfl⟩) hK hP hD hS hA 0 0 rfl rfl rfl [1] rfl [0, 1, 2, 5, 6, 7, 8, 9, 10, 11] [3, 4] rfl (by decide) rfl (by decide) (by decide) [2, 3, 4, 0, 1, 5, 6, 7, 8, 9, 10, 11] (fun _ => rfl) (by decide) rfl hl.1 rfl (Nat.le_of_ble_eq_true rfl) dX0_likeness_10 ⟨Nat.zero_le _, Nat.zero_le _⟩ (fun u5 H locs hw5 hP hD hKn hS => ?_)
  have hP : va_P D vwCl [(hd, .inr (0, [.ref f1, .ref f2, .ref al, .ref ar, .ref az, .ref ax, .ref ay, .int (nI nl), .int (nI nr)])), (f1, .inr (1, [.long (lN nt_P), .ref a1, .ref b1])), (f2, .inr (1, [.long (lN nt_Q), .ref a2, .ref b2])), (al, .inl (cI, 256, .inl lf)), (ar, .inl (cI, 256, .inl rf)), (az, .inl (cJ, 512, .inr (.inl u5.1))), (ax, .inl (cJ, 512, .inr (.inl u2.1))), (ay, .inl (cJ, 512, .inr (.inl u2.2))), (a1, .inl (cJ, 512, .inr (.inl u5.2.1))), (b1, .inl (cJ, 512, .inr (.inl u5.2.2.1))), (a2, .inl (cJ, 512, .inr (.inl u5.2.2.2.1))), (b2, .inl (cJ, 512, .inr (.inl u5.2.2.2.2)))] H := hP
  have hD : va_D A [(hd, .inr (0, [.ref f1, .ref f2, .ref al, .ref ar, .ref az, .ref ax, .ref ay, .int (nI nl), .int (nI nr)])), (f1, .inr (1, [.long (lN nt_P), .ref a1, .ref b1])), (f2, .inr (1, [.long (lN nt_Q), .ref a2, .ref b2])), (al, .inl (cI, 256, .inl lf)), (ar, .inl (cI, 256, .inl rf)), (az, .inl (cJ, 512, .inr (.inl u5.1))), (ax, .inl (cJ, 512, .inr (.inl u2.1))), (ay, .inl (cJ, 512, .inr (.inl u2.2))), (a1, .inl (cJ, 512, .inr (.inl u5.2.1))), (b1, .inl (cJ, 512, .inr (.inl u5.2.2.1))), (a2, .inl (cJ, 512, .inr (.inl u5.2.2.2.1))), (b2, .inl (cJ, 512, .inr (.inl u5.2.2.2.2)))] := hD
  exact W.vret hx hb hr (fun t ht hW => ⟨⟨(u5.1, u2.1, u2.2, u5.2.1, u5.2.2.1, u5.2.2.2.1, u5.2.2.2.2), rfl, fun j hj => (hw5 j hj).trans (by rw [if_pos (show j < 2 ^ 9 from hj)]), by rw [ht]; exact hP, va_K.moved hW.alike hK, hD⟩, hS.F ht⟩) hS.2.2 dX0_likeness_13
set_option maxHeartbeats 4000000 in
set_option maxRecDepth 100000 in
/-- circle(k) -/
theorem m_circle (l : Launch) (D : va_G) (hd f1 f2 al ar az ax ay nl nr : Nat) (a1 b1 a2 b2 : Nat) (cI cJ : ClassId) (lf rf : Nat → Int32) (Zf Xf Yf A1 B1 A2 B2 : Nat → Int64) (hn1 : nl ≤ 256) (hn2 : nr ≤ 256) (hsl : nt_sm lf) (hsr : nt_sm rf) (kd : Int32) : k_Mv l yX0_circle cX0_circle 2 rk5 D [.ref hd, .int kd] [(hd, .inr (0, [.ref f1, .ref f2, .ref al, .ref ar, .ref az, .ref ax, .ref ay, .int (nI nl), .int (nI nr)])), (f1, .inr (1, [.long (lN nt_P), .ref a1, .ref b1])), (f2, .inr (1, [.long (lN nt_Q), .ref a2, .ref b2])), (al, .inl (cI, 256, .inl lf)), (ar, .inl (cI, 256, .inl rf)), (az, .inl (cJ, 512, .inr (.inl Zf))), (ax, .inl (cJ, 512, .inr (.inl Xf))), (ay, .inl (cJ, 512, .inr (.inl Yf))), (a1, .inl (cJ, 512, .inr (.inl A1))), (b1, .inl (cJ, 512, .inr (.inl B1))), (a2, .inl (cJ, 512, .inr (.inl A2))), (b2, .inl (cJ, 512, .inr (.inl B2)))] [(cI, .int), (cJ, .long)] (fun u : (Nat → Int64) × (Nat → Int64) × (Nat → Int64) × (Nat → Int64) × (Nat → Int64) × (Nat → Int64) × (Nat → Int64) => ∀ j, j < 512 → u.1 j = lI (nt_Z nl nr (fun i j => (i + j) % 2 ^ (kd.toBitVec.toNat % 2 ^ 3)) (fun i j => nt_sg false (2 ^ (kd.toBitVec.toNat % 2 ^ 3)) (i + j) * (lf i).toInt * (rf j).toInt) j)) (fun (u : (Nat → Int64) × (Nat → Int64) × (Nat → Int64) × (Nat → Int64) × (Nat → Int64) × (Nat → Int64) × (Nat → Int64)) => [(hd, .inr (0, [.ref f1, .ref f2, .ref al, .ref ar, .ref az, .ref ax, .ref ay, .int (nI nl), .int (nI nr)])), (f1, .inr (1, [.long (lN nt_P), .ref a1, .ref b1])), (f2, .inr (1, [.long (lN nt_Q), .ref a2, .ref b2])), (al, .inl (cI, 256, .inl lf)), (ar, .inl (cI, 256, .inl rf)), (az, .inl (cJ, 512, .inr (.inl u.1))), (ax, .inl (cJ, 512, .inr (.inl u.2.1))), (ay, .inl (cJ, 512, .inr (.inl u.2.2.1))), (a1, .inl (cJ, 512, .inr (.inl u.2.2.2.1))), (b1, .inl (cJ, 512, .inr (.inl u.2.2.2.2.1))), (a2, .inl (cJ, 512, .inr (.inl u.2.2.2.2.2.1))), (b2, .inl (cJ, 512, .inr (.inl u.2.2.2.2.2.2)))]) (fun _ => [(cI, .int), (cJ, .long)]) 0 0 := by
  intro sz
  refine k_met (Qc := fun A => va_Qv (fun u : (Nat → Int64) × (Nat → Int64) × (Nat → Int64) × (Nat → Int64) × (Nat → Int64) × (Nat → Int64) × (Nat → Int64) => ∀ j, j < 512 → u.1 j = lI (nt_Z nl nr (fun i j => (i + j) % 2 ^ (kd.toBitVec.toNat % 2 ^ 3)) (fun i j => nt_sg false (2 ^ (kd.toBitVec.toNat % 2 ^ 3)) (i + j) * (lf i).toInt * (rf j).toInt) j)) (fun (u : (Nat → Int64) × (Nat → Int64) × (Nat → Int64) × (Nat → Int64) × (Nat → Int64) × (Nat → Int64) × (Nat → Int64)) t => k_B D A [(hd, .inr (0, [.ref f1, .ref f2, .ref al, .ref ar, .ref az, .ref ax, .ref ay, .int (nI nl), .int (nI nr)])), (f1, .inr (1, [.long (lN nt_P), .ref a1, .ref b1])), (f2, .inr (1, [.long (lN nt_Q), .ref a2, .ref b2])), (al, .inl (cI, 256, .inl lf)), (ar, .inl (cI, 256, .inl rf)), (az, .inl (cJ, 512, .inr (.inl u.1))), (ax, .inl (cJ, 512, .inr (.inl u.2.1))), (ay, .inl (cJ, 512, .inr (.inl u.2.2.1))), (a1, .inl (cJ, 512, .inr (.inl u.2.2.2.1))), (b1, .inl (cJ, 512, .inr (.inl u.2.2.2.2.1))), (a2, .inl (cJ, 512, .inr (.inl u.2.2.2.2.2.1))), (b2, .inl (cJ, 512, .inr (.inl u.2.2.2.2.2.2)))] [(cI, .int), (cJ, .long)] t) A) (by decide) (Nat.le_of_ble_eq_true rfl) ?_
  intro p e s m below meth c A ls C hP hK hD hA hS hl
  obtain ⟨hx, hb, hml, hr, hlocks, hown, hin, hts⟩ := id C
  have hown : s.vm.findClass RX0 = some m.cls := hown
  have hl : lv_has ls 2 [(0, .ref hd), (1, .int kd)] := hl
  have hkb : kd.toBitVec.toNat % 2 ^ 3 < 8 := Nat.mod_lt _ (by decide)
  refine lv_aload_n hx hb dX0_circle_0 rfl (lv_at hl 0 rfl) ?_
  refine lv_iconst (v := nI 1) hx hb dX0_circle_1 (by decide) ?_
  refine lv_iload_n hx hb dX0_circle_2 rfl (lv_at hl 1 rfl) ?_
  refine lv_bipush (v := nI 7) hx hb dX0_circle_3 (by decide) ?_
  refine lv_iand hx hb dX0_circle_5 ?_
  refine k_ti (nI (kd.toBitVec.toNat % 2 ^ 3)) (pk_and kd 3 (by decide)) ?_
  refine lv_ishl hx hb dX0_circle_6 ?_
  refine k_ti (nI (2 ^ (kd.toBitVec.toNat % 2 ^ 3))) (k_1shl (by omega)) ?_
  refine lv_iconst (v := nI 0) hx hb dX0_circle_7 (by decide) ?_
  refine k_cVv (own := RX0) (wr := []) (wo := fun u => [(hd, .inr (0, [.ref f1, .ref f2, .ref al, .ref ar, .ref az, .ref ax, .ref ay, .int (nI nl), .int (nI nr)])), (f1, .inr (1, [.long (lN nt_P), .ref a1, .ref b1])), (f2, .inr (1, [.long (lN nt_Q), .ref a2, .ref b2])), (al, .inl (cI, 256, .inl lf)), (ar, .inl (cI, 256, .inl rf)), (az, .inl (cJ, 512, .inr (.inl u.1))), (ax, .inl (cJ, 512, .inr (.inl u.2.1))), (ay, .inl (cJ, 512, .inr (.inl u.2.2.1))), (a1, .inl (cJ, 512, .inr (.inl u.2.2.2.1))), (b1, .inl (cJ, 512, .inr (.inl u.2.2.2.2.1))), (a2, .inl (cJ, 512, .inr (.inl u.2.2.2.2.2.1))), (b2, .inl (cJ, 512, .inr (.inl u.2.2.2.2.2.2)))]) C rfl (m_fold l D hd f1 f2 al ar az ax ay nl nr a1 b1 a2 b2 cI cJ lf rf Zf Xf Yf A1 B1 A2 B2 hn1 hn2 hsl hsr (kd.toBitVec.toNat % 2 ^ 3) false (by omega)) (cwV 2 hts (lw_V q138 q140 qs5 q8 q141) rfl rfl rfl (by decide +kernel) ⟨Nat.le_of_ble_eq_true rfl, Nat.le_of_ble_eq_true rfl⟩) hK hP hD hS hA 0 0 rfl rfl rfl [0, 1] rfl [0, 1, 2, 3, 4, 5, 6, 7, 8, 9, 10, 11] [] rfl (by decide) rfl (by decide) (by decide) [0, 1, 2, 3, 4, 5, 6, 7, 8, 9, 10, 11] (fun _ => rfl) (by decide) rfl hl.1 rfl (Nat.le_of_ble_eq_true rfl) dX0_circle_8 ⟨Nat.zero_le _, Nat.zero_le _⟩ (fun u H locs hw5 hP hD hKn hS => ?_)
  have hP : va_P D vwCl [(hd, .inr (0, [.ref f1, .ref f2, .ref al, .ref ar, .ref az, .ref ax, .ref ay, .int (nI nl), .int (nI nr)])), (f1, .inr (1, [.long (lN nt_P), .ref a1, .ref b1])), (f2, .inr (1, [.long (lN nt_Q), .ref a2, .ref b2])), (al, .inl (cI, 256, .inl lf)), (ar, .inl (cI, 256, .inl rf)), (az, .inl (cJ, 512, .inr (.inl u.1))), (ax, .inl (cJ, 512, .inr (.inl u.2.1))), (ay, .inl (cJ, 512, .inr (.inl u.2.2.1))), (a1, .inl (cJ, 512, .inr (.inl u.2.2.2.1))), (b1, .inl (cJ, 512, .inr (.inl u.2.2.2.2.1))), (a2, .inl (cJ, 512, .inr (.inl u.2.2.2.2.2.1))), (b2, .inl (cJ, 512, .inr (.inl u.2.2.2.2.2.2)))] H := hP
  have hD : va_D A [(hd, .inr (0, [.ref f1, .ref f2, .ref al, .ref ar, .ref az, .ref ax, .ref ay, .int (nI nl), .int (nI nr)])), (f1, .inr (1, [.long (lN nt_P), .ref a1, .ref b1])), (f2, .inr (1, [.long (lN nt_Q), .ref a2, .ref b2])), (al, .inl (cI, 256, .inl lf)), (ar, .inl (cI, 256, .inl rf)), (az, .inl (cJ, 512, .inr (.inl u.1))), (ax, .inl (cJ, 512, .inr (.inl u.2.1))), (ay, .inl (cJ, 512, .inr (.inl u.2.2.1))), (a1, .inl (cJ, 512, .inr (.inl u.2.2.2.1))), (b1, .inl (cJ, 512, .inr (.inl u.2.2.2.2.1))), (a2, .inl (cJ, 512, .inr (.inl u.2.2.2.2.2.1))), (b2, .inl (cJ, 512, .inr (.inl u.2.2.2.2.2.2)))] := hD
  exact W.vret hx hb hr (fun t ht hW => ⟨⟨u, rfl, hw5, by rw [ht]; exact hP, va_K.moved hW.alike hK, hD⟩, hS.F ht⟩) hS.2.2 dX0_circle_11
set_option maxHeartbeats 4000000 in
set_option maxRecDepth 100000 in
/-- twisted(k) -/
theorem m_twisted (l : Launch) (D : va_G) (hd f1 f2 al ar az ax ay nl nr : Nat) (a1 b1 a2 b2 : Nat) (cI cJ : ClassId) (lf rf : Nat → Int32) (Zf Xf Yf A1 B1 A2 B2 : Nat → Int64) (hn1 : nl ≤ 256) (hn2 : nr ≤ 256) (hsl : nt_sm lf) (hsr : nt_sm rf) (kd : Int32) : k_Mv l yX0_twisted cX0_twisted 2 rk5 D [.ref hd, .int kd] [(hd, .inr (0, [.ref f1, .ref f2, .ref al, .ref ar, .ref az, .ref ax, .ref ay, .int (nI nl), .int (nI nr)])), (f1, .inr (1, [.long (lN nt_P), .ref a1, .ref b1])), (f2, .inr (1, [.long (lN nt_Q), .ref a2, .ref b2])), (al, .inl (cI, 256, .inl lf)), (ar, .inl (cI, 256, .inl rf)), (az, .inl (cJ, 512, .inr (.inl Zf))), (ax, .inl (cJ, 512, .inr (.inl Xf))), (ay, .inl (cJ, 512, .inr (.inl Yf))), (a1, .inl (cJ, 512, .inr (.inl A1))), (b1, .inl (cJ, 512, .inr (.inl B1))), (a2, .inl (cJ, 512, .inr (.inl A2))), (b2, .inl (cJ, 512, .inr (.inl B2)))] [(cI, .int), (cJ, .long)] (fun u : (Nat → Int64) × (Nat → Int64) × (Nat → Int64) × (Nat → Int64) × (Nat → Int64) × (Nat → Int64) × (Nat → Int64) => ∀ j, j < 512 → u.1 j = lI (nt_Z nl nr (fun i j => (i + j) % 2 ^ (kd.toBitVec.toNat % 2 ^ 3)) (fun i j => nt_sg true (2 ^ (kd.toBitVec.toNat % 2 ^ 3)) (i + j) * (lf i).toInt * (rf j).toInt) j)) (fun (u : (Nat → Int64) × (Nat → Int64) × (Nat → Int64) × (Nat → Int64) × (Nat → Int64) × (Nat → Int64) × (Nat → Int64)) => [(hd, .inr (0, [.ref f1, .ref f2, .ref al, .ref ar, .ref az, .ref ax, .ref ay, .int (nI nl), .int (nI nr)])), (f1, .inr (1, [.long (lN nt_P), .ref a1, .ref b1])), (f2, .inr (1, [.long (lN nt_Q), .ref a2, .ref b2])), (al, .inl (cI, 256, .inl lf)), (ar, .inl (cI, 256, .inl rf)), (az, .inl (cJ, 512, .inr (.inl u.1))), (ax, .inl (cJ, 512, .inr (.inl u.2.1))), (ay, .inl (cJ, 512, .inr (.inl u.2.2.1))), (a1, .inl (cJ, 512, .inr (.inl u.2.2.2.1))), (b1, .inl (cJ, 512, .inr (.inl u.2.2.2.2.1))), (a2, .inl (cJ, 512, .inr (.inl u.2.2.2.2.2.1))), (b2, .inl (cJ, 512, .inr (.inl u.2.2.2.2.2.2)))]) (fun _ => [(cI, .int), (cJ, .long)]) 0 0 := by
  intro sz
  refine k_met (Qc := fun A => va_Qv (fun u : (Nat → Int64) × (Nat → Int64) × (Nat → Int64) × (Nat → Int64) × (Nat → Int64) × (Nat → Int64) × (Nat → Int64) => ∀ j, j < 512 → u.1 j = lI (nt_Z nl nr (fun i j => (i + j) % 2 ^ (kd.toBitVec.toNat % 2 ^ 3)) (fun i j => nt_sg true (2 ^ (kd.toBitVec.toNat % 2 ^ 3)) (i + j) * (lf i).toInt * (rf j).toInt) j)) (fun (u : (Nat → Int64) × (Nat → Int64) × (Nat → Int64) × (Nat → Int64) × (Nat → Int64) × (Nat → Int64) × (Nat → Int64)) t => k_B D A [(hd, .inr (0, [.ref f1, .ref f2, .ref al, .ref ar, .ref az, .ref ax, .ref ay, .int (nI nl), .int (nI nr)])), (f1, .inr (1, [.long (lN nt_P), .ref a1, .ref b1])), (f2, .inr (1, [.long (lN nt_Q), .ref a2, .ref b2])), (al, .inl (cI, 256, .inl lf)), (ar, .inl (cI, 256, .inl rf)), (az, .inl (cJ, 512, .inr (.inl u.1))), (ax, .inl (cJ, 512, .inr (.inl u.2.1))), (ay, .inl (cJ, 512, .inr (.inl u.2.2.1))), (a1, .inl (cJ, 512, .inr (.inl u.2.2.2.1))), (b1, .inl (cJ, 512, .inr (.inl u.2.2.2.2.1))), (a2, .inl (cJ, 512, .inr (.inl u.2.2.2.2.2.1))), (b2, .inl (cJ, 512, .inr (.inl u.2.2.2.2.2.2)))] [(cI, .int), (cJ, .long)] t) A) (by decide) (Nat.le_of_ble_eq_true rfl) ?_
  intro p e s m below meth c A ls C hP hK hD hA hS hl
  obtain ⟨hx, hb, hml, hr, hlocks, hown, hin, hts⟩ := id C
  have hown : s.vm.findClass RX0 = some m.cls := hown
  have hl : lv_has ls 2 [(0, .ref hd), (1, .int kd)] := hl
  have hkb : kd.toBitVec.toNat % 2 ^ 3 < 8 := Nat.mod_lt _ (by decide)
  refine lv_aload_n hx hb dX0_twisted_0 rfl (lv_at hl 0 rfl) ?_
  refine lv_iconst (v := nI 1) hx hb dX0_twisted_1 (by decide) ?_
  refine lv_iload_n hx hb dX0_twisted_2 rfl (lv_at hl 1 rfl) ?_
  refine lv_bipush (v := nI 7) hx hb dX0_twisted_3 (by decide) ?_
  refine lv_iand hx hb dX0_twisted_5 ?_
  refine k_ti (nI (kd.toBitVec.toNat % 2 ^ 3)) (pk_and kd 3 (by decide)) ?_
  refine lv_ishl hx hb dX0_twisted_6 ?_
  refine k_ti (nI (2 ^ (kd.toBitVec.toNat % 2 ^ 3))) (k_1shl (by omega)) ?_
  refine lv_iconst (v := nI 1) hx hb dX0_twisted_7 (by decide) ?_
  refine k_cVv (own := RX0) (wr := []) (wo := fun u => [(hd, .inr (0, [.ref f1, .ref f2, .ref al, .ref ar, .ref az, .ref ax, .ref ay, .int (nI nl), .int (nI nr)])), (f1, .inr (1, [.long (lN nt_P), .ref a1, .ref b1])), (f2, .inr (1, [.long (lN nt_Q), .ref a2, .ref b2])), (al, .inl (cI, 256, .inl lf)), (ar, .inl (cI, 256, .inl rf)), (az, .inl (cJ, 512, .inr (.inl u.1))), (ax, .inl (cJ, 512, .inr (.inl u.2.1))), (ay, .inl (cJ, 512, .inr (.inl u.2.2.1))), (a1, .inl (cJ, 512, .inr (.inl u.2.2.2.1))), (b1, .inl (cJ, 512, .inr (.inl u.2.2.2.2.1))), (a2, .inl (cJ, 512, .inr (.inl u.2.2.2.2.2.1))), (b2, .inl (cJ, 512, .inr (.inl u.2.2.2.2.2.2)))]) C rfl (m_fold l D hd f1 f2 al ar az ax ay nl nr a1 b1 a2 b2 cI cJ lf rf Zf Xf Yf A1 B1 A2 B2 hn1 hn2 hsl hsr (kd.toBitVec.toNat % 2 ^ 3) true (by omega)) (cwV 2 hts (lw_V q138 q140 qs5 q8 q141) rfl rfl rfl (by decide +kernel) ⟨Nat.le_of_ble_eq_true rfl, Nat.le_of_ble_eq_true rfl⟩) hK hP hD hS hA 0 0 rfl rfl rfl [0, 1] rfl [0, 1, 2, 3, 4, 5, 6, 7, 8, 9, 10, 11] [] rfl (by decide) rfl (by decide) (by decide) [0, 1, 2, 3, 4, 5, 6, 7, 8, 9, 10, 11] (fun _ => rfl) (by decide) rfl hl.1 rfl (Nat.le_of_ble_eq_true rfl) dX0_twisted_8 ⟨Nat.zero_le _, Nat.zero_le _⟩ (fun u H locs hw5 hP hD hKn hS => ?_)
  have hP : va_P D vwCl [(hd, .inr (0, [.ref f1, .ref f2, .ref al, .ref ar, .ref az, .ref ax, .ref ay, .int (nI nl), .int (nI nr)])), (f1, .inr (1, [.long (lN nt_P), .ref a1, .ref b1])), (f2, .inr (1, [.long (lN nt_Q), .ref a2, .ref b2])), (al, .inl (cI, 256, .inl lf)), (ar, .inl (cI, 256, .inl rf)), (az, .inl (cJ, 512, .inr (.inl u.1))), (ax, .inl (cJ, 512, .inr (.inl u.2.1))), (ay, .inl (cJ, 512, .inr (.inl u.2.2.1))), (a1, .inl (cJ, 512, .inr (.inl u.2.2.2.1))), (b1, .inl (cJ, 512, .inr (.inl u.2.2.2.2.1))), (a2, .inl (cJ, 512, .inr (.inl u.2.2.2.2.2.1))), (b2, .inl (cJ, 512, .inr (.inl u.2.2.2.2.2.2)))] H := hP
  have hD : va_D A [(hd, .inr (0, [.ref f1, .ref f2, .ref al, .ref ar, .ref az, .ref ax, .ref ay, .int (nI nl), .int (nI nr)])), (f1, .inr (1, [.long (lN nt_P), .ref a1, .ref b1])), (f2, .inr (1, [.long (lN nt_Q), .ref a2, .ref b2])), (al, .inl (cI, 256, .inl lf)), (ar, .inl (cI, 256, .inl rf)), (az, .inl (cJ, 512, .inr (.inl u.1))), (ax, .inl (cJ, 512, .inr (.inl u.2.1))), (ay, .inl (cJ, 512, .inr (.inl u.2.2.1))), (a1, .inl (cJ, 512, .inr (.inl u.2.2.2.1))), (b1, .inl (cJ, 512, .inr (.inl u.2.2.2.2.1))), (a2, .inl (cJ, 512, .inr (.inl u.2.2.2.2.2.1))), (b2, .inl (cJ, 512, .inr (.inl u.2.2.2.2.2.2)))] := hD
  exact W.vret hx hb hr (fun t ht hW => ⟨⟨u, rfl, hw5, by rw [ht]; exact hP, va_K.moved hW.alike hK, hD⟩, hS.F ht⟩) hS.2.2 dX0_twisted_11
end
section
/-! the constructors -/
abbrev rkR : Room := { frames := 1, cells := 2, slots := 1024, locals := 12 }
abbrev rkD : Room := { frames := 2, cells := 11, slots := 4102, locals := 34 }
abbrev rkM : Room := { frames := 1, cells := 3, slots := 1024, locals := 12 }
set_option maxHeartbeats 4000000 in
set_option maxRecDepth 100000 in
/-- Ring(p): two rows of zeros -/
theorem m_rinit (l : Launch) (D : va_G) (h0 P : Nat) : k_Mv l yX1_init cX1_init 3 rkR D [.ref h0, .long (lN P)] [(h0, .inr (1, [.long (lN 0), .null, .null]))] [] (fun _ : Nat × Nat × ClassId => True) (fun u : Nat × Nat × ClassId => [(h0, .inr (1, [.long (lN P), .ref u.1, .ref u.2.1])), (u.1, .inl (u.2.2, 512, .inr (.inl (fun _ => lN 0)))), (u.2.1, .inl (u.2.2, 512, .inr (.inl (fun _ => lN 0))))]) (fun u : Nat × Nat × ClassId => [(u.2.2, .long)]) 2 1024 := by
  intro sz
  refine k_met (Qc := fun A => va_Qv (fun _ : Nat × Nat × ClassId => True) (fun (u : Nat × Nat × ClassId) t => k_B D A [(h0, .inr (1, [.long (lN P), .ref u.1, .ref u.2.1])), (u.1, .inl (u.2.2, 512, .inr (.inl (fun _ => lN 0)))), (u.2.1, .inl (u.2.2, 512, .inr (.inl (fun _ => lN 0))))] [(u.2.2, .long)] t) A) (by decide) (Nat.le_of_ble_eq_true rfl) ?_
  intro p e s m below meth c A ls C hP hK hD hA hS hl
  obtain ⟨hx, hb, hml, hr, hlocks, hown, hin, hts⟩ := id C
  have hown : s.vm.findClass RX1 = some m.cls := hown
  have hin : meth.name = "<init>" := hin
  have hl : lv_has ls 3 [(0, .ref h0), (1, .long (lN P))] := hl
  refine lv_aload_n hx hb dX1_init_0 rfl (lv_at hl 0 rfl) ?_
  refine W.objInit hx hb hown (hts _ q25) (hts _ q17) (hts _ q18) rfl (by rw [hml]; exact hl.1) rfl dX1_init_1 (Nat.le_of_ble_eq_true rfl) (Nat.le_of_ble_eq_true rfl) ?_
  refine W.eq (g2 := F0 m 4 ls []) rfl ?_
  refine lv_aload_n hx hb dX1_init_4 rfl (lv_at hl 0 rfl) ?_
  refine lv_sipush (v := nI 512) hx hb dX1_init_5 (by decide) ?_
  refine va_newa (n := nI 512) (N' := 512) (a0 := (512, .inr (.inl (fun _ => lN 0)))) (ty := .long) (atype := .long) hx hb (hts _ q37) rfl hK hP hD hS hA (fun _ => rfl) (by decide) (by decide) (by decide) (Nat.le_of_ble_eq_true rfl) (Nat.le_of_ble_eq_true rfl) dX1_init_8 (fun ra cJ H hK hP hD hS => ?_)
  have hK : va_K D vwCl [(cJ, .long)] s := hK
  have hP : va_P D vwCl [(h0, .inr (1, [.long (lN 0), .null, .null])), (ra, .inl (cJ, 512, .inr (.inl ((fun _ => lN 0)))))] H := hP
  have hD : va_D A [(h0, .inr (1, [.long (lN 0), .null, .null])), (ra, .inl (cJ, 512, .inr (.inl ((fun _ => lN 0)))))] := hD
  refine va_putF (D := D) (ci := 1) (v := .ref ra) (ty := .array .long) (C := RX1) (T := TX1) (N := 3) hx hb hts in_X1 tyX1 tyX1_ok nmX1 hown hK hP hD hS 0 rfl rfl 1 (by decide) (hts _ q28) (fun _ h9 => h9) rfl hin rfl (by decide +kernel) rfl rfl (Nat.le_of_ble_eq_true rfl) dX1_init_10 (fun H locs hP hD hS => ?_)
  have hP : va_P D vwCl [(h0, .inr (1, [.long (lN 0), .ref ra, .null])), (ra, .inl (cJ, 512, .inr (.inl ((fun _ => lN 0)))))] H := hP
  have hD : va_D A [(h0, .inr (1, [.long (lN 0), .ref ra, .null])), (ra, .inl (cJ, 512, .inr (.inl ((fun _ => lN 0)))))] := hD
  refine lv_aload_n hx hb dX1_init_13 rfl (lv_at hl 0 rfl) ?_
  refine lv_sipush (v := nI 512) hx hb dX1_init_14 (by decide) ?_
  refine va_newa (n := nI 512) (N' := 512) (a0 := (512, .inr (.inl (fun _ => lN 0)))) (ty := .long) (atype := .long) hx hb (hts _ q37) rfl hK hP hD hS hA (fun _ => rfl) (by decide) (by decide) (by decide) (Nat.le_of_ble_eq_true rfl) (Nat.le_of_ble_eq_true rfl) dX1_init_17 (fun rb cJ2 H hK hP hD hS => ?_)
  have hK : va_K D vwCl [(cJ, .long), (cJ2, .long)] s := hK
  have hP : va_P D vwCl [(h0, .inr (1, [.long (lN 0), .ref ra, .null])), (ra, .inl (cJ, 512, .inr (.inl ((fun _ => lN 0))))), (rb, .inl (cJ2, 512, .inr (.inl ((fun _ => lN 0)))))] H := hP
  have hD : va_D A [(h0, .inr (1, [.long (lN 0), .ref ra, .null])), (ra, .inl (cJ, 512, .inr (.inl ((fun _ => lN 0))))), (rb, .inl (cJ2, 512, .inr (.inl ((fun _ => lN 0)))))] := hD
  obtain rfl : cJ = cJ2 := k_sameJ hK 0 1 rfl rfl
  have hK : va_K D vwCl [(cJ, .long)] s := hK.sub [0] rfl
  refine va_putF (D := D) (ci := 1) (v := .ref rb) (ty := .array .long) (C := RX1) (T := TX1) (N := 3) hx hb hts in_X1 tyX1 tyX1_ok nmX1 hown hK hP hD hS 0 rfl rfl 2 (by decide) (hts _ q29) (fun _ h9 => h9) rfl hin rfl (by decide +kernel) rfl rfl (Nat.le_of_ble_eq_true rfl) dX1_init_19 (fun H locs hP hD hS => ?_)
  have hP : va_P D vwCl [(h0, .inr (1, [.long (lN 0), .ref ra, .ref rb])), (ra, .inl (cJ, 512, .inr (.inl ((fun _ => lN 0))))), (rb, .inl (cJ, 512, .inr (.inl ((fun _ => lN 0)))))] H := hP
  have hD : va_D A [(h0, .inr (1, [.long (lN 0), .ref ra, .ref rb])), (ra, .inl (cJ, 512, .inr (.inl ((fun _ => lN 0))))), (rb, .inl (cJ, 512, .inr (.inl ((fun _ => lN 0)))))] := hD
  refine lv_aload_n hx hb dX1_init_22 rfl (lv_at hl 0 rfl) ?_
  refine lv_lload_n hx hb dX1_init_23 rfl (lv_at hl 1 rfl) ?_
  refine va_putF (D := D) (ci := 1) (v := .long (lN P)) (ty := .long) (C := RX1) (T := TX1) (N := 3) hx hb hts in_X1 tyX1 tyX1_ok nmX1 hown hK hP hD hS 0 rfl rfl 0 (by decide) (hts _ q26) (fun _ h9 => h9) rfl hin rfl (by decide +kernel) rfl rfl (Nat.le_of_ble_eq_true rfl) dX1_init_24 (fun H locs hP hD hS => ?_)
  have hP : va_P D vwCl [(h0, .inr (1, [.long (lN P), .ref ra, .ref rb])), (ra, .inl (cJ, 512, .inr (.inl ((fun _ => lN 0))))), (rb, .inl (cJ, 512, .inr (.inl ((fun _ => lN 0)))))] H := hP
  have hD : va_D A [(h0, .inr (1, [.long (lN P), .ref ra, .ref rb])), (ra, .inl (cJ, 512, .inr (.inl ((fun _ => lN 0))))), (rb, .inl (cJ, 512, .inr (.inl ((fun _ => lN 0)))))] := hD
  refine W.widen (k := 2) (n := 1024) (by decide) (by decide) ?_
  exact W.vret hx hb hr (fun t ht hW => ⟨⟨(ra, rb, cJ), rfl, trivial, by rw [ht]; exact hP, va_K.moved hW.alike hK, hD⟩, hS.F ht⟩) hS.2.2 dX1_init_27
set_option maxHeartbeats 4000000 in
set_option maxRecDepth 100000 in
/-- ProductDesk() -/
theorem m_init (l : Launch) (D : va_G) (hd : Nat) : k_Mv l yX0_init cX0_init 1 rkD D [.ref hd] [(hd, .inr (0, [.null, .null, .null, .null, .null, .null, .null, .int (nI 0), .int (nI 0)]))] [] (fun _ : (Nat → Nat) × ClassId × ClassId => True) (fun u : (Nat → Nat) × ClassId × ClassId => [(hd, .inr (0, [.ref (u.1 0), .ref (u.1 1), .ref (u.1 2), .ref (u.1 3), .ref (u.1 4), .ref (u.1 5), .ref (u.1 6), .int (nI 0), .int (nI 0)])), (u.1 0, .inr (1, [.long (lN nt_P), .ref (u.1 7), .ref (u.1 8)])), (u.1 1, .inr (1, [.long (lN nt_Q), .ref (u.1 9), .ref (u.1 10)])), (u.1 2, .inl (u.2.1, 256, .inl (fun _ => nI 0))), (u.1 3, .inl (u.2.1, 256, .inl (fun _ => nI 0))), (u.1 4, .inl (u.2.2, 512, .inr (.inl (fun _ => lN 0)))), (u.1 5, .inl (u.2.2, 512, .inr (.inl (fun _ => lN 0)))), (u.1 6, .inl (u.2.2, 512, .inr (.inl (fun _ => lN 0)))), (u.1 7, .inl (u.2.2, 512, .inr (.inl (fun _ => lN 0)))), (u.1 8, .inl (u.2.2, 512, .inr (.inl (fun _ => lN 0)))), (u.1 9, .inl (u.2.2, 512, .inr (.inl (fun _ => lN 0)))), (u.1 10, .inl (u.2.2, 512, .inr (.inl (fun _ => lN 0))))]) (fun u : (Nat → Nat) × ClassId × ClassId => [(u.2.1, .int), (u.2.2, .long)]) 11 4102 := by
  intro sz
  refine k_met (Qc := fun A => va_Qv (fun _ : (Nat → Nat) × ClassId × ClassId => True) (fun (u : (Nat → Nat) × ClassId × ClassId) t => k_B D A [(hd, .inr (0, [.ref (u.1 0), .ref (u.1 1), .ref (u.1 2), .ref (u.1 3), .ref (u.1 4), .ref (u.1 5), .ref (u.1 6), .int (nI 0), .int (nI 0)])), (u.1 0, .inr (1, [.long (lN nt_P), .ref (u.1 7), .ref (u.1 8)])), (u.1 1, .inr (1, [.long (lN nt_Q), .ref (u.1 9), .ref (u.1 10)])), (u.1 2, .inl (u.2.1, 256, .inl (fun _ => nI 0))), (u.1 3, .inl (u.2.1, 256, .inl (fun _ => nI 0))), (u.1 4, .inl (u.2.2, 512, .inr (.inl (fun _ => lN 0)))), (u.1 5, .inl (u.2.2, 512, .inr (.inl (fun _ => lN 0)))), (u.1 6, .inl (u.2.2, 512, .inr (.inl (fun _ => lN 0)))), (u.1 7, .inl (u.2.2, 512, .inr (.inl (fun _ => lN 0)))), (u.1 8, .inl (u.2.2, 512, .inr (.inl (fun _ => lN 0)))), (u.1 9, .inl (u.2.2, 512, .inr (.inl (fun _ => lN 0)))), (u.1 10, .inl (u.2.2, 512, .inr (.inl (fun _ => lN 0))))] [(u.2.1, .int), (u.2.2, .long)] t) A) (by decide) (Nat.le_of_ble_eq_true rfl) ?_
  intro p e s m below meth c A ls C hP hK hD hA hS hl
  obtain ⟨hx, hb, hml, hr, hlocks, hown, hin, hts⟩ := id C
  have hown : s.vm.findClass RX0 = some m.cls := hown
  have hin : meth.name = "<init>" := hin
  have hl : lv_has ls 1 [(0, .ref hd)] := hl
  refine lv_aload_n hx hb dX0_init_0 rfl (lv_at hl 0 rfl) ?_
  refine W.objInit hx hb hown (hts _ q16) (hts _ q17) (hts _ q18) rfl (by rw [hml]; exact hl.1) rfl dX0_init_1 (Nat.le_of_ble_eq_true rfl) (Nat.le_of_ble_eq_true rfl) ?_
  refine W.eq (g2 := F0 m 4 ls []) rfl ?_
  refine lv_aload_n hx hb dX0_init_4 rfl (lv_at hl 0 rfl) ?_
  refine va_new (ci := 1) (fs := [.long (lN 0), .null, .null]) (C := RX1) (T := TX1) (N := 3) hx hb hts in_X1 tyX1 tyX1_ok hown (hts _ q19) (hts _ q20) (hts _ q9) hK hP hD hS hA rfl (fun j hj => by rcases (show j = 0 ∨ j = 1 ∨ j = 2 by omega) with rfl | rfl | rfl <;> rfl) (Nat.le_of_ble_eq_true rfl) (Nat.le_of_ble_eq_true rfl) dX0_init_5 (fun f1 H hP hD hS => ?_)
  have hP : va_P D vwCl [(hd, .inr (0, [.null, .null, .null, .null, .null, .null, .null, .int (nI 0), .int (nI 0)])), (f1, .inr (1, [.long (lN 0), .null, .null]))] H := hP
  have hD : va_D A [(hd, .inr (0, [.null, .null, .null, .null, .null, .null, .null, .int (nI 0), .int (nI 0)])), (f1, .inr (1, [.long (lN 0), .null, .null]))] := hD
  refine lv_dup hx hb dX0_init_8 rfl ?_
  refine lv_ldc2 hx hb hown (hts _ q21) dX0_init_9 ?_
  refine k_tl (lN 998244353) rfl ?_
  refine k_cIv (own := RX0) (wr := [(hd, .inr (0, [.null, .null, .null, .null, .null, .null, .null, .int (nI 0), .int (nI 0)]))]) (wo := fun u => [(hd, .inr (0, [.null, .null, .null, .null, .null, .null, .null, .int (nI 0), .int (nI 0)])), (f1, .inr (1, [.long (lN nt_P), .ref u.1, .ref u.2.1])), (u.1, .inl (u.2.2, 512, .inr (.inl ((fun _ => lN 0))))), (u.2.1, .inl (u.2.2, 512, .inr (.inl ((fun _ => lN 0)))))]) C rfl (m_rinit l D f1 nt_P) (cwI 1 hts (lw_meth q24) rfl rfl rfl (hts _ q9) (hts _ q22) (hts _ q23) rfl (by decide +kernel) ⟨Nat.le_of_ble_eq_true rfl, Nat.le_of_ble_eq_true rfl⟩) hK hP hD hS hA [] rfl [1] [0] rfl (by decide) rfl (by decide) (by decide) [0, 1, 2, 3] (fun _ => rfl) (by decide) rfl hl.1 rfl (Nat.le_of_ble_eq_true rfl) dX0_init_12 ⟨Nat.le_of_ble_eq_true rfl, Nat.le_of_ble_eq_true rfl⟩ (fun u H locs hw hP hD hKn hS => ?_)
  obtain ⟨a1, b1, cJ⟩ := u
  have hP : va_P D vwCl [(hd, .inr (0, [.null, .null, .null, .null, .null, .null, .null, .int (nI 0), .int (nI 0)])), (f1, .inr (1, [.long (lN nt_P), .ref a1, .ref b1])), (a1, .inl (cJ, 512, .inr (.inl ((fun _ => lN 0))))), (b1, .inl (cJ, 512, .inr (.inl ((fun _ => lN 0)))))] H := hP
  have hD : va_D A [(hd, .inr (0, [.null, .null, .null, .null, .null, .null, .null, .int (nI 0), .int (nI 0)])), (f1, .inr (1, [.long (lN nt_P), .ref a1, .ref b1])), (a1, .inl (cJ, 512, .inr (.inl ((fun _ => lN 0))))), (b1, .inl (cJ, 512, .inr (.inl ((fun _ => lN 0)))))] := hD
  have hK := hK.app hKn
  have hK : va_K D vwCl [(cJ, .long)] s := hK
  refine va_putF (D := D) (ci := 0) (v := .ref f1) (ty := .object "ProductDesk$Ring") (C := RX0) (T := TX0) (N := 9) hx hb hts in_X0 tyX0 tyX0_ok nmX0 hown hK hP hD hS 0 rfl rfl 0 (by decide) (hts _ q39) (fun _ h9 => h9) rfl hin rfl (by decide +kernel) rfl rfl (Nat.le_of_ble_eq_true rfl) dX0_init_15 (fun H locs hP hD hS => ?_)
  have hP : va_P D vwCl [(hd, .inr (0, [.ref f1, .null, .null, .null, .null, .null, .null, .int (nI 0), .int (nI 0)])), (f1, .inr (1, [.long (lN nt_P), .ref a1, .ref b1])), (a1, .inl (cJ, 512, .inr (.inl ((fun _ => lN 0))))), (b1, .inl (cJ, 512, .inr (.inl ((fun _ => lN 0)))))] H := hP
  have hD : va_D A [(hd, .inr (0, [.ref f1, .null, .null, .null, .null, .null, .null, .int (nI 0), .int (nI 0)])), (f1, .inr (1, [.long (lN nt_P), .ref a1, .ref b1])), (a1, .inl (cJ, 512, .inr (.inl ((fun _ => lN 0))))), (b1, .inl (cJ, 512, .inr (.inl ((fun _ => lN 0)))))] := hD
  refine lv_aload_n hx hb dX0_init_18 rfl (lv_at hl 0 rfl) ?_
  refine va_new (ci := 1) (fs := [.long (lN 0), .null, .null]) (C := RX1) (T := TX1) (N := 3) hx hb hts in_X1 tyX1 tyX1_ok hown (hts _ q19) (hts _ q20) (hts _ q9) hK hP hD hS hA rfl (fun j hj => by rcases (show j = 0 ∨ j = 1 ∨ j = 2 by omega) with rfl | rfl | rfl <;> rfl) (Nat.le_of_ble_eq_true rfl) (Nat.le_of_ble_eq_true rfl) dX0_init_19 (fun f2 H hP hD hS => ?_)
  have hP : va_P D vwCl [(hd, .inr (0, [.ref f1, .null, .null, .null, .null, .null, .null, .int (nI 0), .int (nI 0)])), (f1, .inr (1, [.long (lN nt_P), .ref a1, .ref b1])), (a1, .inl (cJ, 512, .inr (.inl ((fun _ => lN 0))))), (b1, .inl (cJ, 512, .inr (.inl ((fun _ => lN 0))))), (f2, .inr (1, [.long (lN 0), .null, .null]))] H := hP
  have hD : va_D A [(hd, .inr (0, [.ref f1, .null, .null, .null, .null, .null, .null, .int (nI 0), .int (nI 0)])), (f1, .inr (1, [.long (lN nt_P), .ref a1, .ref b1])), (a1, .inl (cJ, 512, .inr (.inl ((fun _ => lN 0))))), (b1, .inl (cJ, 512, .inr (.inl ((fun _ => lN 0))))), (f2, .inr (1, [.long (lN 0), .null, .null]))] := hD
  refine lv_dup hx hb dX0_init_22 rfl ?_
  refine lv_ldc2 hx hb hown (hts _ q38) dX0_init_23 ?_
  refine k_tl (lN 1004535809) rfl ?_
  refine k_cIv (own := RX0) (wr := [(hd, .inr (0, [.ref f1, .null, .null, .null, .null, .null, .null, .int (nI 0), .int (nI 0)])), (f1, .inr (1, [.long (lN nt_P), .ref a1, .ref b1])), (a1, .inl (cJ, 512, .inr (.inl ((fun _ => lN 0))))), (b1, .inl (cJ, 512, .inr (.inl ((fun _ => lN 0)))))]) (wo := fun u => [(hd, .inr (0, [.ref f1, .null, .null, .null, .null, .null, .null, .int (nI 0), .int (nI 0)])), (f1, .inr (1, [.long (lN nt_P), .ref a1, .ref b1])), (a1, .inl (cJ, 512, .inr (.inl ((fun _ => lN 0))))), (b1, .inl (cJ, 512, .inr (.inl ((fun _ => lN 0))))), (f2, .inr (1, [.long (lN nt_Q), .ref u.1, .ref u.2.1])), (u.1, .inl (u.2.2, 512, .inr (.inl ((fun _ => lN 0))))), (u.2.1, .inl (u.2.2, 512, .inr (.inl ((fun _ => lN 0)))))]) C rfl (m_rinit l D f2 nt_Q) (cwI 1 hts (lw_meth q24) rfl rfl rfl (hts _ q9) (hts _ q22) (hts _ q23) rfl (by decide +kernel) ⟨Nat.le_of_ble_eq_true rfl, Nat.le_of_ble_eq_true rfl⟩) hK hP hD hS hA [] rfl [4] [0, 1, 2, 3] rfl (by decide) rfl (by decide) (by decide) [0, 1, 2, 3, 4, 5, 6] (fun _ => rfl) (by decide) rfl hl.1 rfl (Nat.le_of_ble_eq_true rfl) dX0_init_26 ⟨Nat.le_of_ble_eq_true rfl, Nat.le_of_ble_eq_true rfl⟩ (fun u H locs hw hP hD hKn hS => ?_)
  obtain ⟨a2, b2, cJ2⟩ := u
  have hP : va_P D vwCl [(hd, .inr (0, [.ref f1, .null, .null, .null, .null, .null, .null, .int (nI 0), .int (nI 0)])), (f1, .inr (1, [.long (lN nt_P), .ref a1, .ref b1])), (a1, .inl (cJ, 512, .inr (.inl ((fun _ => lN 0))))), (b1, .inl (cJ, 512, .inr (.inl ((fun _ => lN 0))))), (f2, .inr (1, [.long (lN nt_Q), .ref a2, .ref b2])), (a2, .inl (cJ2, 512, .inr (.inl ((fun _ => lN 0))))), (b2, .inl (cJ2, 512, .inr (.inl ((fun _ => lN 0)))))] H := hP
  have hD : va_D A [(hd, .inr (0, [.ref f1, .null, .null, .null, .null, .null, .null, .int (nI 0), .int (nI 0)])), (f1, .inr (1, [.long (lN nt_P), .ref a1, .ref b1])), (a1, .inl (cJ, 512, .inr (.inl ((fun _ => lN 0))))), (b1, .inl (cJ, 512, .inr (.inl ((fun _ => lN 0))))), (f2, .inr (1, [.long (lN nt_Q), .ref a2, .ref b2])), (a2, .inl (cJ2, 512, .inr (.inl ((fun _ => lN 0))))), (b2, .inl (cJ2, 512, .inr (.inl ((fun _ => lN 0)))))] := hD
  have hK := hK.app hKn
  have hK : va_K D vwCl [(cJ, .long), (cJ2, .long)] s := hK
  obtain rfl : cJ = cJ2 := k_sameJ hK 0 1 rfl rfl
  have hK : va_K D vwCl [(cJ, .long)] s := hK.sub [0] rfl
  refine va_putF (D := D) (ci := 0) (v := .ref f2) (ty := .object "ProductDesk$Ring") (C := RX0) (T := TX0) (N := 9) hx hb hts in_X0 tyX0 tyX0_ok nmX0 hown hK hP hD hS 0 rfl rfl 1 (by decide) (hts _ q40) (fun _ h9 => h9) rfl hin rfl (by decide +kernel) rfl rfl (Nat.le_of_ble_eq_true rfl) dX0_init_29 (fun H locs hP hD hS => ?_)
  have hP : va_P D vwCl [(hd, .inr (0, [.ref f1, .ref f2, .null, .null, .null, .null, .null, .int (nI 0), .int (nI 0)])), (f1, .inr (1, [.long (lN nt_P), .ref a1, .ref b1])), (a1, .inl (cJ, 512, .inr (.inl ((fun _ => lN 0))))), (b1, .inl (cJ, 512, .inr (.inl ((fun _ => lN 0))))), (f2, .inr (1, [.long (lN nt_Q), .ref a2, .ref b2])), (a2, .inl (cJ, 512, .inr (.inl ((fun _ => lN 0))))), (b2, .inl (cJ, 512, .inr (.inl ((fun _ => lN 0)))))] H := hP
  have hD : va_D A [(hd, .inr (0, [.ref f1, .ref f2, .null, .null, .null, .null, .null, .int (nI 0), .int (nI 0)])), (f1, .inr (1, [.long (lN nt_P), .ref a1, .ref b1])), (a1, .inl (cJ, 512, .inr (.inl ((fun _ => lN 0))))), (b1, .inl (cJ, 512, .inr (.inl ((fun _ => lN 0))))), (f2, .inr (1, [.long (lN nt_Q), .ref a2, .ref b2])), (a2, .inl (cJ, 512, .inr (.inl ((fun _ => lN 0))))), (b2, .inl (cJ, 512, .inr (.inl ((fun _ => lN 0)))))] := hD
  refine lv_aload_n hx hb dX0_init_32 rfl (lv_at hl 0 rfl) ?_
  refine lv_sipush (v := nI 256) hx hb dX0_init_33 (by decide) ?_
  refine va_newa (n := nI 256) (N' := 256) (a0 := (256, .inl (fun _ => nI 0))) (ty := .int) (atype := .int) hx hb (hts _ q67) rfl hK hP hD hS hA (fun _ => rfl) (by decide) (by decide) (by decide) (Nat.le_of_ble_eq_true rfl) (Nat.le_of_ble_eq_true rfl) dX0_init_36 (fun al cI H hK hP hD hS => ?_)
  have hK : va_K D vwCl [(cJ, .long), (cI, .int)] s := hK
  have hP : va_P D vwCl [(hd, .inr (0, [.ref f1, .ref f2, .null, .null, .null, .null, .null, .int (nI 0), .int (nI 0)])), (f1, .inr (1, [.long (lN nt_P), .ref a1, .ref b1])), (a1, .inl (cJ, 512, .inr (.inl ((fun _ => lN 0))))), (b1, .inl (cJ, 512, .inr (.inl ((fun _ => lN 0))))), (f2, .inr (1, [.long (lN nt_Q), .ref a2, .ref b2])), (a2, .inl (cJ, 512, .inr (.inl ((fun _ => lN 0))))), (b2, .inl (cJ, 512, .inr (.inl ((fun _ => lN 0))))), (al, .inl (cI, 256, .inl ((fun _ => nI 0))))] H := hP
  have hD : va_D A [(hd, .inr (0, [.ref f1, .ref f2, .null, .null, .null, .null, .null, .int (nI 0), .int (nI 0)])), (f1, .inr (1, [.long (lN nt_P), .ref a1, .ref b1])), (a1, .inl (cJ, 512, .inr (.inl ((fun _ => lN 0))))), (b1, .inl (cJ, 512, .inr (.inl ((fun _ => lN 0))))), (f2, .inr (1, [.long (lN nt_Q), .ref a2, .ref b2])), (a2, .inl (cJ, 512, .inr (.inl ((fun _ => lN 0))))), (b2, .inl (cJ, 512, .inr (.inl ((fun _ => lN 0))))), (al, .inl (cI, 256, .inl ((fun _ => nI 0))))] := hD
  refine va_putF (D := D) (ci := 0) (v := .ref al) (ty := .array .int) (C := RX0) (T := TX0) (N := 9) hx hb hts in_X0 tyX0 tyX0_ok nmX0 hown hK hP hD hS 0 rfl rfl 2 (by decide) (hts _ q41) (fun _ h9 => h9) rfl hin rfl (by decide +kernel) rfl rfl (Nat.le_of_ble_eq_true rfl) dX0_init_38 (fun H locs hP hD hS => ?_)
  have hP : va_P D vwCl [(hd, .inr (0, [.ref f1, .ref f2, .ref al, .null, .null, .null, .null, .int (nI 0), .int (nI 0)])), (f1, .inr (1, [.long (lN nt_P), .ref a1, .ref b1])), (a1, .inl (cJ, 512, .inr (.inl ((fun _ => lN 0))))), (b1, .inl (cJ, 512, .inr (.inl ((fun _ => lN 0))))), (f2, .inr (1, [.long (lN nt_Q), .ref a2, .ref b2])), (a2, .inl (cJ, 512, .inr (.inl ((fun _ => lN 0))))), (b2, .inl (cJ, 512, .inr (.inl ((fun _ => lN 0))))), (al, .inl (cI, 256, .inl ((fun _ => nI 0))))] H := hP
  have hD : va_D A [(hd, .inr (0, [.ref f1, .ref f2, .ref al, .null, .null, .null, .null, .int (nI 0), .int (nI 0)])), (f1, .inr (1, [.long (lN nt_P), .ref a1, .ref b1])), (a1, .inl (cJ, 512, .inr (.inl ((fun _ => lN 0))))), (b1, .inl (cJ, 512, .inr (.inl ((fun _ => lN 0))))), (f2, .inr (1, [.long (lN nt_Q), .ref a2, .ref b2])), (a2, .inl (cJ, 512, .inr (.inl ((fun _ => lN 0))))), (b2, .inl (cJ, 512, .inr (.inl ((fun _ => lN 0))))), (al, .inl (cI, 256, .inl ((fun _ => nI 0))))] := hD
  refine lv_aload_n hx hb dX0_init_41 rfl (lv_at hl 0 rfl) ?_
  refine lv_sipush (v := nI 256) hx hb dX0_init_42 (by decide) ?_
  refine va_newa (n := nI 256) (N' := 256) (a0 := (256, .inl (fun _ => nI 0))) (ty := .int) (atype := .int) hx hb (hts _ q67) rfl hK hP hD hS hA (fun _ => rfl) (by decide) (by decide) (by decide) (Nat.le_of_ble_eq_true rfl) (Nat.le_of_ble_eq_true rfl) dX0_init_45 (fun ar cI2 H hK hP hD hS => ?_)
  have hK : va_K D vwCl [(cJ, .long), (cI, .int), (cI2, .int)] s := hK
  have hP : va_P D vwCl [(hd, .inr (0, [.ref f1, .ref f2, .ref al, .null, .null, .null, .null, .int (nI 0), .int (nI 0)])), (f1, .inr (1, [.long (lN nt_P), .ref a1, .ref b1])), (a1, .inl (cJ, 512, .inr (.inl ((fun _ => lN 0))))), (b1, .inl (cJ, 512, .inr (.inl ((fun _ => lN 0))))), (f2, .inr (1, [.long (lN nt_Q), .ref a2, .ref b2])), (a2, .inl (cJ, 512, .inr (.inl ((fun _ => lN 0))))), (b2, .inl (cJ, 512, .inr (.inl ((fun _ => lN 0))))), (al, .inl (cI, 256, .inl ((fun _ => nI 0)))), (ar, .inl (cI2, 256, .inl ((fun _ => nI 0))))] H := hP
  have hD : va_D A [(hd, .inr (0, [.ref f1, .ref f2, .ref al, .null, .null, .null, .null, .int (nI 0), .int (nI 0)])), (f1, .inr (1, [.long (lN nt_P), .ref a1, .ref b1])), (a1, .inl (cJ, 512, .inr (.inl ((fun _ => lN 0))))), (b1, .inl (cJ, 512, .inr (.inl ((fun _ => lN 0))))), (f2, .inr (1, [.long (lN nt_Q), .ref a2, .ref b2])), (a2, .inl (cJ, 512, .inr (.inl ((fun _ => lN 0))))), (b2, .inl (cJ, 512, .inr (.inl ((fun _ => lN 0))))), (al, .inl (cI, 256, .inl ((fun _ => nI 0)))), (ar, .inl (cI2, 256, .inl ((fun _ => nI 0))))] := hD
  obtain rfl : cI = cI2 := k_sameI hK 1 2 rfl rfl
  have hK : va_K D vwCl [(cJ, .long), (cI, .int)] s := hK.sub [0, 1] rfl
  refine va_putF (D := D) (ci := 0) (v := .ref ar) (ty := .array .int) (C := RX0) (T := TX0) (N := 9) hx hb hts in_X0 tyX0 tyX0_ok nmX0 hown hK hP hD hS 0 rfl rfl 3 (by decide) (hts _ q42) (fun _ h9 => h9) rfl hin rfl (by decide +kernel) rfl rfl (Nat.le_of_ble_eq_true rfl) dX0_init_47 (fun H locs hP hD hS => ?_)
  have hP : va_P D vwCl [(hd, .inr (0, [.ref f1, .ref f2, .ref al, .ref ar, .null, .null, .null, .int (nI 0), .int (nI 0)])), (f1, .inr (1, [.long (lN nt_P), .ref a1, .ref b1])), (a1, .inl (cJ, 512, .inr (.inl ((fun _ => lN 0))))), (b1, .inl (cJ, 512, .inr (.inl ((fun _ => lN 0))))), (f2, .inr (1, [.long (lN nt_Q), .ref a2, .ref b2])), (a2, .inl (cJ, 512, .inr (.inl ((fun _ => lN 0))))), (b2, .inl (cJ, 512, .inr (.inl ((fun _ => lN 0))))), (al, .inl (cI, 256, .inl ((fun _ => nI 0)))), (ar, .inl (cI, 256, .inl ((fun _ => nI 0))))] H := hP
  have hD : va_D A [(hd, .inr (0, [.ref f1, .ref f2, .ref al, .ref ar, .null, .null, .null, .int (nI 0), .int (nI 0)])), (f1, .inr (1, [.long (lN nt_P), .ref a1, .ref b1])), (a1, .inl (cJ, 512, .inr (.inl ((fun _ => lN 0))))), (b1, .inl (cJ, 512, .inr (.inl ((fun _ => lN 0))))), (f2, .inr (1, [.long (lN nt_Q), .ref a2, .ref b2])), (a2, .inl (cJ, 512, .inr (.inl ((fun _ => lN 0))))), (b2, .inl (cJ, 512, .inr (.inl ((fun _ => lN 0))))), (al, .inl (cI, 256, .inl ((fun _ => nI 0)))), (ar, .inl (cI, 256, .inl ((fun _ => nI 0))))] := hD
  refine lv_aload_n hx hb dX0_init_50 rfl (lv_at hl 0 rfl) ?_
  refine lv_sipush (v := nI 512) hx hb dX0_init_51 (by decide) ?_
  refine va_newa (n := nI 512) (N' := 512) (a0 := (512, .inr (.inl (fun _ => lN 0)))) (ty := .long) (atype := .long) hx hb (hts _ q37) rfl hK hP hD hS hA (fun _ => rfl) (by decide) (by decide) (by decide) (Nat.le_of_ble_eq_true rfl) (Nat.le_of_ble_eq_true rfl) dX0_init_54 (fun az cJ3 H hK hP hD hS => ?_)
  have hK : va_K D vwCl [(cJ, .long), (cI, .int), (cJ3, .long)] s := hK
  have hP : va_P D vwCl [(hd, .inr (0, [.ref f1, .ref f2, .ref al, .ref ar, .null, .null, .null, .int (nI 0), .int (nI 0)])), (f1, .inr (1, [.long (lN nt_P), .ref a1, .ref b1])), (a1, .inl (cJ, 512, .inr (.inl ((fun _ => lN 0))))), (b1, .inl (cJ, 512, .inr (.inl ((fun _ => lN 0))))), (f2, .inr (1, [.long (lN nt_Q), .ref a2, .ref b2])), (a2, .inl (cJ, 512, .inr (.inl ((fun _ => lN 0))))), (b2, .inl (cJ, 512, .inr (.inl ((fun _ => lN 0))))), (al, .inl (cI, 256, .inl ((fun _ => nI 0)))), (ar, .inl (cI, 256, .inl ((fun _ => nI 0)))), (az, .inl (cJ3, 512, .inr (.inl ((fun _ => lN 0)))))] H := hP
  have hD : va_D A [(hd, .inr (0, [.ref f1, .ref f2, .ref al, .ref ar, .null, .null, .null, .int (nI 0), .int (nI 0)])), (f1, .inr (1, [.long (lN nt_P), .ref a1, .ref b1])), (a1, .inl (cJ, 512, .inr (.inl ((fun _ => lN 0))))), (b1, .inl (cJ, 512, .inr (.inl ((fun _ => lN 0))))), (f2, .inr (1, [.long (lN nt_Q), .ref a2, .ref b2])), (a2, .inl (cJ, 512, .inr (.inl ((fun _ => lN 0))))), (b2, .inl (cJ, 512, .inr (.inl ((fun _ => lN 0))))), (al, .inl (cI, 256, .inl ((fun _ => nI 0)))), (ar, .inl (cI, 256, .inl ((fun _ => nI 0)))), (az, .inl (cJ3, 512, .inr (.inl ((fun _ => lN 0)))))] := hD
  obtain rfl : cJ = cJ3 := k_sameJ hK 0 2 rfl rfl
  have hK : va_K D vwCl [(cJ, .long), (cI, .int)] s := hK.sub [0, 1] rfl
  refine va_putF (D := D) (ci := 0) (v := .ref az) (ty := .array .long) (C := RX0) (T := TX0) (N := 9) hx hb hts in_X0 tyX0 tyX0_ok nmX0 hown hK hP hD hS 0 rfl rfl 4 (by decide) (hts _ q43) (fun _ h9 => h9) rfl hin rfl (by decide +kernel) rfl rfl (Nat.le_of_ble_eq_true rfl) dX0_init_56 (fun H locs hP hD hS => ?_)
  have hP : va_P D vwCl [(hd, .inr (0, [.ref f1, .ref f2, .ref al, .ref ar, .ref az, .null, .null, .int (nI 0), .int (nI 0)])), (f1, .inr (1, [.long (lN nt_P), .ref a1, .ref b1])), (a1, .inl (cJ, 512, .inr (.inl ((fun _ => lN 0))))), (b1, .inl (cJ, 512, .inr (.inl ((fun _ => lN 0))))), (f2, .inr (1, [.long (lN nt_Q), .ref a2, .ref b2])), (a2, .inl (cJ, 512, .inr (.inl ((fun _ => lN 0))))), (b2, .inl (cJ, 512, .inr (.inl ((fun _ => lN 0))))), (al, .inl (cI, 256, .inl ((fun _ => nI 0)))), (ar, .inl (cI, 256, .inl ((fun _ => nI 0)))), (az, .inl (cJ, 512, .inr (.inl ((fun _ => lN 0)))))] H := hP
  have hD : va_D A [(hd, .inr (0, [.ref f1, .ref f2, .ref al, .ref ar, .ref az, .null, .null, .int (nI 0), .int (nI 0)])), (f1, .inr (1, [.long (lN nt_P), .ref a1, .ref b1])), (a1, .inl (cJ, 512, .inr (.inl ((fun _ => lN 0))))), (b1, .inl (cJ, 512, .inr (.inl ((fun _ => lN 0))))), (f2, .inr (1, [.long (lN nt_Q), .ref a2, .ref b2])), (a2, .inl (cJ, 512, .inr (.inl ((fun _ => lN 0))))), (b2, .inl (cJ, 512, .inr (.inl ((fun _ => lN 0))))), (al, .inl (cI, 256, .inl ((fun _ => nI 0)))), (ar, .inl (cI, 256, .inl ((fun _ => nI 0)))), (az, .inl (cJ, 512, .inr (.inl ((fun _ => lN 0)))))] := hD
  refine lv_aload_n hx hb dX0_init_59 rfl (lv_at hl 0 rfl) ?_
  refine lv_sipush (v := nI 512) hx hb dX0_init_60 (by decide) ?_
  refine va_newa (n := nI 512) (N' := 512) (a0 := (512, .inr (.inl (fun _ => lN 0)))) (ty := .long) (atype := .long) hx hb (hts _ q37) rfl hK hP hD hS hA (fun _ => rfl) (by decide) (by decide) (by decide) (Nat.le_of_ble_eq_true rfl) (Nat.le_of_ble_eq_true rfl) dX0_init_63 (fun ax cJ4 H hK hP hD hS => ?_)
  have hK : va_K D vwCl [(cJ, .long), (cI, .int), (cJ4, .long)] s := hK
  have hP : va_P D vwCl [(hd, .inr (0, [.ref f1, .ref f2, .ref al, .ref ar, .ref az, .null, .null, .int (nI 0), .int (nI 0)])), (f1, .inr (1, [.long (lN nt_P), .ref a1, .ref b1])), (a1, .inl (cJ, 512, .inr (.inl ((fun _ => lN 0))))), (b1, .inl (cJ, 512, .inr (.inl ((fun _ => lN 0))))), (f2, .inr (1, [.long (lN nt_Q), .ref a2, .ref b2])), (a2, .inl (cJ, 512, .inr (.inl ((fun _ => lN 0))))), (b2, .inl (cJ, 512, .inr (.inl ((fun _ => lN 0))))), (al, .inl (cI, 256, .inl ((fun _ => nI 0)))), (ar, .inl (cI, 256, .inl ((fun _ => nI 0)))), (az, .inl (cJ, 512, .inr (.inl ((fun _ => lN 0))))), (ax, .inl (cJ4, 512, .inr (.inl ((fun _ => lN 0)))))] H := hP
  have hD : va_D A [(hd, .inr (0, [.ref f1, .ref f2, .ref al, .ref ar, .ref az, .null, .null, .int (nI 0), .int (nI 0)])), (f1, .inr (1, [.long (lN nt_P), .ref a1, .ref b1])), (a1, .inl (cJ, 512, .inr (.inl ((fun _ => lN 0))))), (b1, .inl (cJ, 512, .inr (.inl ((fun _ => lN 0))))), (f2, .inr (1, [.long (lN nt_Q), .ref a2, .ref b2])), (a2, .inl (cJ, 512, .inr (.inl ((fun _ => lN 0))))), (b2, .inl (cJ, 512, .inr (.inl ((fun _ => lN 0))))), (al, .inl (cI, 256, .inl ((fun _ => nI 0)))), (ar, .inl (cI, 256, .inl ((fun _ => nI 0)))), (az, .inl (cJ, 512, .inr (.inl ((fun _ => lN 0))))), (ax, .inl (cJ4, 512, .inr (.inl ((fun _ => lN 0)))))] := hD
  obtain rfl : cJ = cJ4 := k_sameJ hK 0 2 rfl rfl
  have hK : va_K D vwCl [(cJ, .long), (cI, .int)] s := hK.sub [0, 1] rfl
  refine va_putF (D := D) (ci := 0) (v := .ref ax) (ty := .array .long) (C := RX0) (T := TX0) (N := 9) hx hb hts in_X0 tyX0 tyX0_ok nmX0 hown hK hP hD hS 0 rfl rfl 5 (by decide) (hts _ q44) (fun _ h9 => h9) rfl hin rfl (by decide +kernel) rfl rfl (Nat.le_of_ble_eq_true rfl) dX0_init_65 (fun H locs hP hD hS => ?_)
  have hP : va_P D vwCl [(hd, .inr (0, [.ref f1, .ref f2, .ref al, .ref ar, .ref az, .ref ax, .null, .int (nI 0), .int (nI 0)])), (f1, .inr (1, [.long (lN nt_P), .ref a1, .ref b1])), (a1, .inl (cJ, 512, .inr (.inl ((fun _ => lN 0))))), (b1, .inl (cJ, 512, .inr (.inl ((fun _ => lN 0))))), (f2, .inr (1, [.long (lN nt_Q), .ref a2, .ref b2])), (a2, .inl (cJ, 512, .inr (.inl ((fun _ => lN 0))))), (b2, .inl (cJ, 512, .inr (.inl ((fun _ => lN 0))))), (al, .inl (cI, 256, .inl ((fun _ => nI 0)))), (ar, .inl (cI, 256, .inl ((fun _ => nI 0)))), (az, .inl (cJ, 512, .inr (.inl ((fun _ => lN 0))))), (ax, .inl (cJ, 512, .inr (.inl ((fun _ => lN 0)))))] H := hP
  have hD : va_D A [(hd, .inr (0, [.ref f1, .ref f2, .ref al, .ref ar, .ref az, .ref ax, .null, .int (nI 0), .int (nI 0)])), (f1, .inr (1, [.long (lN nt_P), .ref a1, .ref b1])), (a1, .inl (cJ, 512, .inr (.inl ((fun _ => lN 0))))), (b1, .inl (cJ, 512, .inr (.inl ((fun _ => lN 0))))), (f2, .inr (1, [.long (lN nt_Q), .ref a2, .ref b2])), (a2, .inl (cJ, 512, .inr (.inl ((fun _ => lN 0))))), (b2, .inl (cJ, 512, .inr (.inl ((fun _ => lN 0))))), (al, .inl (cI, 256, .inl ((fun _ => nI 0)))), (ar, .inl (cI, 256, .inl ((fun _ => nI 0)))), (az, .inl (cJ, 512, .inr (.inl ((fun _ => lN 0))))), (ax, .inl (cJ, 512, .inr (.inl ((fun _ => lN 0)))))] := hD
  refine lv_aload_n hx hb dX0_init_68 rfl (lv_at hl 0 rfl) ?_
  refine lv_sipush (v := nI 512) hx hb dX0_init_69 (by decide) ?_
  refine va_newa (n := nI 512) (N' := 512) (a0 := (512, .inr (.inl (fun _ => lN 0)))) (ty := .long) (atype := .long) hx hb (hts _ q37) rfl hK hP hD hS hA (fun _ => rfl) (by decide) (by decide) (by decide) (Nat.le_of_ble_eq_true rfl) (Nat.le_of_ble_eq_true rfl) dX0_init_72 (fun ay cJ5 H hK hP hD hS => ?_)
  have hK : va_K D vwCl [(cJ, .long), (cI, .int), (cJ5, .long)] s := hK
  have hP : va_P D vwCl [(hd, .inr (0, [.ref f1, .ref f2, .ref al, .ref ar, .ref az, .ref ax, .null, .int (nI 0), .int (nI 0)])), (f1, .inr (1, [.long (lN nt_P), .ref a1, .ref b1])), (a1, .inl (cJ, 512, .inr (.inl ((fun _ => lN 0))))), (b1, .inl (cJ, 512, .inr (.inl ((fun _ => lN 0))))), (f2, .inr (1, [.long (lN nt_Q), .ref a2, .ref b2])), (a2, .inl (cJ, 512, .inr (.inl ((fun _ => lN 0))))), (b2, .inl (cJ, 512, .inr (.inl ((fun _ => lN 0))))), (al, .inl (cI, 256, .inl ((fun _ => nI 0)))), (ar, .inl (cI, 256, .inl ((fun _ => nI 0)))), (az, .inl (cJ, 512, .inr (.inl ((fun _ => lN 0))))), (ax, .inl (cJ, 512, .inr (.inl ((fun _ => lN 0))))), (ay, .inl (cJ5, 512, .inr (.inl ((fun _ => lN 0)))))] H := hP
  have hD : va_D A [(hd, .inr (0, [.ref f1, .ref f2, .ref al, .ref ar, .ref az, .ref ax, .null, .int (nI 0), .int (nI 0)])), (f1, .inr (1, [.long (lN nt_P), .ref a1, .ref b1])), (a1, .inl (cJ, 512, .inr (.inl ((fun _ => lN 0))))), (b1, .inl (cJ, 512, .inr (.inl ((fun _ => lN 0))))), (f2, .inr (1, [.long (lN nt_Q), .ref a2, .ref b2])), (a2, .inl (cJ, 512, .inr (.inl ((fun _ => lN 0))))), (b2, .inl (cJ, 512, .inr (.inl ((fun _ => lN 0))))), (al, .inl (cI, 256, .inl ((fun _ => nI 0)))), (ar, .inl (cI, 256, .inl ((fun _ => nI 0)))), (az, .inl (cJ, 512, .inr (.inl ((fun _ => lN 0))))), (ax, .inl (cJ, 512, .inr (.inl ((fun _ => lN 0))))), (ay, .inl (cJ5, 512, .inr (.inl ((fun _ => lN 0)))))] := hD
  obtain rfl : cJ = cJ5 := k_sameJ hK 0 2 rfl rfl
  have hK : va_K D vwCl [(cJ, .long), (cI, .int)] s := hK.sub [0, 1] rfl
  refine va_putF (D := D) (ci := 0) (v := .ref ay) (ty := .array .long) (C := RX0) (T := TX0) (N := 9) hx hb hts in_X0 tyX0 tyX0_ok nmX0 hown hK hP hD hS 0 rfl rfl 6 (by decide) (hts _ q45) (fun _ h9 => h9) rfl hin rfl (by decide +kernel) rfl rfl (Nat.le_of_ble_eq_true rfl) dX0_init_74 (fun H locs hP hD hS => ?_)
  have hP : va_P D vwCl [(hd, .inr (0, [.ref f1, .ref f2, .ref al, .ref ar, .ref az, .ref ax, .ref ay, .int (nI 0), .int (nI 0)])), (f1, .inr (1, [.long (lN nt_P), .ref a1, .ref b1])), (a1, .inl (cJ, 512, .inr (.inl ((fun _ => lN 0))))), (b1, .inl (cJ, 512, .inr (.inl ((fun _ => lN 0))))), (f2, .inr (1, [.long (lN nt_Q), .ref a2, .ref b2])), (a2, .inl (cJ, 512, .inr (.inl ((fun _ => lN 0))))), (b2, .inl (cJ, 512, .inr (.inl ((fun _ => lN 0))))), (al, .inl (cI, 256, .inl ((fun _ => nI 0)))), (ar, .inl (cI, 256, .inl ((fun _ => nI 0)))), (az, .inl (cJ, 512, .inr (.inl ((fun _ => lN 0))))), (ax, .inl (cJ, 512, .inr (.inl ((fun _ => lN 0))))), (ay, .inl (cJ, 512, .inr (.inl ((fun _ => lN 0)))))] H := hP
  have hD : va_D A [(hd, .inr (0, [.ref f1, .ref f2, .ref al, .ref ar, .ref az, .ref ax, .ref ay, .int (nI 0), .int (nI 0)])), (f1, .inr (1, [.long (lN nt_P), .ref a1, .ref b1])), (a1, .inl (cJ, 512, .inr (.inl ((fun _ => lN 0))))), (b1, .inl (cJ, 512, .inr (.inl ((fun _ => lN 0))))), (f2, .inr (1, [.long (lN nt_Q), .ref a2, .ref b2])), (a2, .inl (cJ, 512, .inr (.inl ((fun _ => lN 0))))), (b2, .inl (cJ, 512, .inr (.inl ((fun _ => lN 0))))), (al, .inl (cI, 256, .inl ((fun _ => nI 0)))), (ar, .inl (cI, 256, .inl ((fun _ => nI 0)))), (az, .inl (cJ, 512, .inr (.inl ((fun _ => lN 0))))), (ax, .inl (cJ, 512, .inr (.inl ((fun _ => lN 0))))), (ay, .inl (cJ, 512, .inr (.inl ((fun _ => lN 0)))))] := hD
  refine W.widen (k := 11) (n := 4102) (by decide) (by decide) ?_
  have hP := hP.sub (ws' := [(hd, .inr (0, [.ref f1, .ref f2, .ref al, .ref ar, .ref az, .ref ax, .ref ay, .int (nI 0), .int (nI 0)])), (f1, .inr (1, [.long (lN nt_P), .ref a1, .ref b1])), (f2, .inr (1, [.long (lN nt_Q), .ref a2, .ref b2])), (al, .inl (cI, 256, .inl ((fun _ => nI 0)))), (ar, .inl (cI, 256, .inl ((fun _ => nI 0)))), (az, .inl (cJ, 512, .inr (.inl ((fun _ => lN 0))))), (ax, .inl (cJ, 512, .inr (.inl ((fun _ => lN 0))))), (ay, .inl (cJ, 512, .inr (.inl ((fun _ => lN 0))))), (a1, .inl (cJ, 512, .inr (.inl ((fun _ => lN 0))))), (b1, .inl (cJ, 512, .inr (.inl ((fun _ => lN 0))))), (a2, .inl (cJ, 512, .inr (.inl ((fun _ => lN 0))))), (b2, .inl (cJ, 512, .inr (.inl ((fun _ => lN 0)))))]) [0, 1, 4, 7, 8, 9, 10, 11, 2, 3, 5, 6] rfl
  have hD := hD.sub (ws' := [(hd, .inr (0, [.ref f1, .ref f2, .ref al, .ref ar, .ref az, .ref ax, .ref ay, .int (nI 0), .int (nI 0)])), (f1, .inr (1, [.long (lN nt_P), .ref a1, .ref b1])), (f2, .inr (1, [.long (lN nt_Q), .ref a2, .ref b2])), (al, .inl (cI, 256, .inl ((fun _ => nI 0)))), (ar, .inl (cI, 256, .inl ((fun _ => nI 0)))), (az, .inl (cJ, 512, .inr (.inl ((fun _ => lN 0))))), (ax, .inl (cJ, 512, .inr (.inl ((fun _ => lN 0))))), (ay, .inl (cJ, 512, .inr (.inl ((fun _ => lN 0))))), (a1, .inl (cJ, 512, .inr (.inl ((fun _ => lN 0))))), (b1, .inl (cJ, 512, .inr (.inl ((fun _ => lN 0))))), (a2, .inl (cJ, 512, .inr (.inl ((fun _ => lN 0))))), (b2, .inl (cJ, 512, .inr (.inl ((fun _ => lN 0)))))]) [0, 1, 4, 7, 8, 9, 10, 11, 2, 3, 5, 6] (by decide) rfl
  have hK := hK.sub (tys' := [(cI, .int), (cJ, .long)]) [1, 0] rfl
  exact W.vret hx hb hr (fun t ht hW => ⟨⟨(fun k => [f1, f2, al, ar, az, ax, ay, a1, b1, a2, b2].getD k 0, cI, cJ), rfl, trivial, by rw [ht]; exact hP, va_K.moved hW.alike hK, hD⟩, hS.F ht⟩) hS.2.2 dX0_init_77
set_option maxHeartbeats 4000000 in
set_option maxRecDepth 100000 in
/-- ProductDeskModel() -/
theorem m_minit (l : Launch) (D : va_G) (hm : Nat) : k_Mv l yX2_init cX2_init 1 rkM D [.ref hm] [(hm, .inr (2, [.null, .null, .null, .int (nI 0), .int (nI 0)]))] [] (fun _ : (Nat → Nat) × ClassId × ClassId => True) (fun u : (Nat → Nat) × ClassId × ClassId => [(hm, .inr (2, [.ref (u.1 0), .ref (u.1 1), .ref (u.1 2), .int (nI 0), .int (nI 0)])), (u.1 0, .inl (u.2.1, 256, .inl (fun _ => nI 0))), (u.1 1, .inl (u.2.1, 256, .inl (fun _ => nI 0))), (u.1 2, .inl (u.2.2, 512, .inr (.inl (fun _ => lN 0))))]) (fun u : (Nat → Nat) × ClassId × ClassId => [(u.2.1, .int), (u.2.2, .long)]) 3 1024 := by
  intro sz
  refine k_met (Qc := fun A => va_Qv (fun _ : (Nat → Nat) × ClassId × ClassId => True) (fun (u : (Nat → Nat) × ClassId × ClassId) t => k_B D A [(hm, .inr (2, [.ref (u.1 0), .ref (u.1 1), .ref (u.1 2), .int (nI 0), .int (nI 0)])), (u.1 0, .inl (u.2.1, 256, .inl (fun _ => nI 0))), (u.1 1, .inl (u.2.1, 256, .inl (fun _ => nI 0))), (u.1 2, .inl (u.2.2, 512, .inr (.inl (fun _ => lN 0))))] [(u.2.1, .int), (u.2.2, .long)] t) A) (by decide) (Nat.le_of_ble_eq_true rfl) ?_
  intro p e s m below meth c A ls C hP hK hD hA hS hl
  obtain ⟨hx, hb, hml, hr, hlocks, hown, hin, hts⟩ := id C
  have hown : s.vm.findClass RX2 = some m.cls := hown
  have hin : meth.name = "<init>" := hin
  have hl : lv_has ls 1 [(0, .ref hm)] := hl
  refine lv_aload_n hx hb dX2_init_0 rfl (lv_at hl 0 rfl) ?_
  refine W.objInit hx hb hown (hts _ q159) (hts _ q17) (hts _ q18) rfl (by rw [hml]; exact hl.1) rfl dX2_init_1 (Nat.le_of_ble_eq_true rfl) (Nat.le_of_ble_eq_true rfl) ?_
  refine W.eq (g2 := F0 m 4 ls []) rfl ?_
  refine lv_aload_n hx hb dX2_init_4 rfl (lv_at hl 0 rfl) ?_
  refine lv_sipush (v := nI 256) hx hb dX2_init_5 (by decide) ?_
  refine va_newa (n := nI 256) (N' := 256) (a0 := (256, .inl (fun _ => nI 0))) (ty := .int) (atype := .int) hx hb (hts _ q67) rfl hK hP hD hS hA (fun _ => rfl) (by decide) (by decide) (by decide) (Nat.le_of_ble_eq_true rfl) (Nat.le_of_ble_eq_true rfl) dX2_init_8 (fun ma cI H hK hP hD hS => ?_)
  have hK : va_K D vwCl [(cI, .int)] s := hK
  have hP : va_P D vwCl [(hm, .inr (2, [.null, .null, .null, .int (nI 0), .int (nI 0)])), (ma, .inl (cI, 256, .inl ((fun _ => nI 0))))] H := hP
  have hD : va_D A [(hm, .inr (2, [.null, .null, .null, .int (nI 0), .int (nI 0)])), (ma, .inl (cI, 256, .inl ((fun _ => nI 0))))] := hD
  refine va_putF (D := D) (ci := 2) (v := .ref ma) (ty := .array .int) (C := RX2) (T := TX2) (N := 5) hx hb hts in_X2 tyX2 tyX2_ok nmX2 hown hK hP hD hS 0 rfl rfl 0 (by decide) (hts _ q160) (fun _ h9 => h9) rfl hin rfl (by decide +kernel) rfl rfl (Nat.le_of_ble_eq_true rfl) dX2_init_10 (fun H locs hP hD hS => ?_)
  have hP : va_P D vwCl [(hm, .inr (2, [.ref ma, .null, .null, .int (nI 0), .int (nI 0)])), (ma, .inl (cI, 256, .inl ((fun _ => nI 0))))] H := hP
  have hD : va_D A [(hm, .inr (2, [.ref ma, .null, .null, .int (nI 0), .int (nI 0)])), (ma, .inl (cI, 256, .inl ((fun _ => nI 0))))] := hD
  refine lv_aload_n hx hb dX2_init_13 rfl (lv_at hl 0 rfl) ?_
  refine lv_sipush (v := nI 256) hx hb dX2_init_14 (by decide) ?_
  refine va_newa (n := nI 256) (N' := 256) (a0 := (256, .inl (fun _ => nI 0))) (ty := .int) (atype := .int) hx hb (hts _ q67) rfl hK hP hD hS hA (fun _ => rfl) (by decide) (by decide) (by decide) (Nat.le_of_ble_eq_true rfl) (Nat.le_of_ble_eq_true rfl) dX2_init_17 (fun mb cI2 H hK hP hD hS => ?_)
  have hK : va_K D vwCl [(cI, .int), (cI2, .int)] s := hK
  have hP : va_P D vwCl [(hm, .inr (2, [.ref ma, .null, .null, .int (nI 0), .int (nI 0)])), (ma, .inl (cI, 256, .inl ((fun _ => nI 0)))), (mb, .inl (cI2, 256, .inl ((fun _ => nI 0))))] H := hP
  have hD : va_D A [(hm, .inr (2, [.ref ma, .null, .null, .int (nI 0), .int (nI 0)])), (ma, .inl (cI, 256, .inl ((fun _ => nI 0)))), (mb, .inl (cI2, 256, .inl ((fun _ => nI 0))))] := hD
  obtain rfl : cI = cI2 := k_sameI hK 0 1 rfl rfl
  have hK : va_K D vwCl [(cI, .int)] s := hK.sub [0] rfl
  refine va_putF (D := D) (ci := 2) (v := .ref mb) (ty := .array .int) (C := RX2) (T := TX2) (N := 5) hx hb hts in_X2 tyX2 tyX2_ok nmX2 hown hK hP hD hS 0 rfl rfl 1 (by decide) (hts _ q161) (fun _ h9 => h9) rfl hin rfl (by decide +kernel) rfl rfl (Nat.le_of_ble_eq_true rfl) dX2_init_19 (fun H locs hP hD hS => ?_)
  have hP : va_P D vwCl [(hm, .inr (2, [.ref ma, .ref mb, .null, .int (nI 0), .int (nI 0)])), (ma, .inl (cI, 256, .inl ((fun _ => nI 0)))), (mb, .inl (cI, 256, .inl ((fun _ => nI 0))))] H := hP
  have hD : va_D A [(hm, .inr (2, [.ref ma, .ref mb, .null, .int (nI 0), .int (nI 0)])), (ma, .inl (cI, 256, .inl ((fun _ => nI 0)))), (mb, .inl (cI, 256, .inl ((fun _ => nI 0))))] := hD
  refine lv_aload_n hx hb dX2_init_22 rfl (lv_at hl 0 rfl) ?_
  refine lv_sipush (v := nI 512) hx hb dX2_init_23 (by decide) ?_
  refine va_newa (n := nI 512) (N' := 512) (a0 := (512, .inr (.inl (fun _ => lN 0)))) (ty := .long) (atype := .long) hx hb (hts _ q37) rfl hK hP hD hS hA (fun _ => rfl) (by decide) (by decide) (by decide) (Nat.le_of_ble_eq_true rfl) (Nat.le_of_ble_eq_true rfl) dX2_init_26 (fun mz cJ H hK hP hD hS => ?_)
  have hK : va_K D vwCl [(cI, .int), (cJ, .long)] s := hK
  have hP : va_P D vwCl [(hm, .inr (2, [.ref ma, .ref mb, .null, .int (nI 0), .int (nI 0)])), (ma, .inl (cI, 256, .inl ((fun _ => nI 0)))), (mb, .inl (cI, 256, .inl ((fun _ => nI 0)))), (mz, .inl (cJ, 512, .inr (.inl ((fun _ => lN 0)))))] H := hP
  have hD : va_D A [(hm, .inr (2, [.ref ma, .ref mb, .null, .int (nI 0), .int (nI 0)])), (ma, .inl (cI, 256, .inl ((fun _ => nI 0)))), (mb, .inl (cI, 256, .inl ((fun _ => nI 0)))), (mz, .inl (cJ, 512, .inr (.inl ((fun _ => lN 0)))))] := hD
  refine va_putF (D := D) (ci := 2) (v := .ref mz) (ty := .array .long) (C := RX2) (T := TX2) (N := 5) hx hb hts in_X2 tyX2 tyX2_ok nmX2 hown hK hP hD hS 0 rfl rfl 2 (by decide) (hts _ q162) (fun _ h9 => h9) rfl hin rfl (by decide +kernel) rfl rfl (Nat.le_of_ble_eq_true rfl) dX2_init_28 (fun H locs hP hD hS => ?_)
  have hP : va_P D vwCl [(hm, .inr (2, [.ref ma, .ref mb, .ref mz, .int (nI 0), .int (nI 0)])), (ma, .inl (cI, 256, .inl ((fun _ => nI 0)))), (mb, .inl (cI, 256, .inl ((fun _ => nI 0)))), (mz, .inl (cJ, 512, .inr (.inl ((fun _ => lN 0)))))] H := hP
  have hD : va_D A [(hm, .inr (2, [.ref ma, .ref mb, .ref mz, .int (nI 0), .int (nI 0)])), (ma, .inl (cI, 256, .inl ((fun _ => nI 0)))), (mb, .inl (cI, 256, .inl ((fun _ => nI 0)))), (mz, .inl (cJ, 512, .inr (.inl ((fun _ => lN 0)))))] := hD
  refine W.widen (k := 3) (n := 1024) (by decide) (by decide) ?_
  exact W.vret hx hb hr (fun t ht hW => ⟨⟨(fun k => [ma, mb, mz].getD k 0, cI, cJ), rfl, trivial, by rw [ht]; exact hP, va_K.moved hW.alike hK, hD⟩, hS.F ht⟩) hS.2.2 dX2_init_31
end
section
/-! ProductDeskModel -/
theorem nt_z_step {z0 : Nat → Int} {ix : Nat → Nat} {c : Nat → Int} {j : Nat} {F : Nat → Int64} (h : ∀ k, k < 512 → F k = lI (z0 k + nt_B j ix c k)) :
    ∀ k, k < 512 → vp_updL F (ix j) (lI (z0 (ix j) + nt_B j ix c (ix j) + c j)) k = lI (z0 k + nt_B (j + 1) ix c k) := by
  intro k hk
  rw [nt_B1, ← Int.add_assoc]
  by_cases e : k = ix j
  · subst e
    rw [pk_uLs, if_pos rfl]
  · rw [pk_uLn e, if_neg (fun q => e q.symm), Int.add_zero]
    exact h k hk
theorem k_like {i j : Nat} (h : j ≤ 255) : nI i - nI j + nI 255 = nI (i + (255 - j)) := by
  rw [← nI_add, ← pk_sub h]
  grind
set_option maxHeartbeats 4000000 in
set_option maxRecDepth 100000 in
/-- left of the model -/
theorem m_mleft (l : Launch) (D : va_G) (hm ma mb mz nl nr : Nat) (cI : ClassId) (f : Nat → Int32) (p1 p2 p3 p4 : Int32) (hn : nl ≤ 256) : k_Mi l yX2_left cX2_left 6 (some .boolean) rk0 D [.ref hm, .int p1, .int p2, .int p3, .int p4] [(hm, .inr (2, [.ref ma, .ref mb, .ref mz, .int (nI nl), .int (nI nr)])), (ma, .inl (cI, 256, .inl f))] [(cI, .int)] (fun r (u : (Nat → Int32) × Nat) => nt_p4 f nl p1 p2 p3 p4 r u) (fun (u : (Nat → Int32) × Nat) => [(hm, .inr (2, [.ref ma, .ref mb, .ref mz, .int (nI u.2), .int (nI nr)])), (ma, .inl (cI, 256, .inl u.1))]) := by
  intro sz
  refine k_met (Qc := fun A => va_Qi (fun r (u : (Nat → Int32) × Nat) => nt_p4 f nl p1 p2 p3 p4 r u) (fun (u : (Nat → Int32) × Nat) t => k_B D A [(hm, .inr (2, [.ref ma, .ref mb, .ref mz, .int (nI u.2), .int (nI nr)])), (ma, .inl (cI, 256, .inl u.1))] [(cI, .int)] t) A) (by decide) (Nat.le_of_ble_eq_true rfl) ?_
  intro p e s m below meth c A ls C hP hK hD hA hS hl
  obtain ⟨hx, hb, hml, hr, hlocks, hown, hin, hts⟩ := id C
  have hown : s.vm.findClass RX2 = some m.cls := hown
  have hl : lv_has ls 6 [(0, .ref hm), (1, .int p1), (2, .int p2), (3, .int p3), (4, .int p4)] := hl
  refine lv_aload_n hx hb dX2_left_0 rfl (lv_at hl 0 rfl) ?_
  refine va_get (D := D) (ci := 2) (v := .int (nI nl)) (C := RX2) (T := TX2) (N := 5) hx hb hts in_X2 hown hK hP 0 rfl rfl 3 (by decide) (hts _ q163) (fun _ h9 => h9) rfl dX2_left_1 ?_
  refine lv_iconst (v := nI 4) hx hb dX2_left_4 (by decide) ?_
  refine k_iadd hx hb dX2_left_5  ?_
  refine lv_sipush (v := nI 256) hx hb dX2_left_6 (by decide) ?_
  refine k_icmp_le (tgt := 14) hx hb dX2_left_9 (by decide) (by omega) (by omega) (fun c1 => ?_) (fun c1 => ?_)
  · refine lv_iconst (v := nI 0) hx hb dX2_left_14 (by decide) ?_
    refine lv_istore (lv' := [(5, .int (nI 0)), (0, .ref hm), (1, .int p1), (2, .int p2), (3, .int p3), (4, .int p4)]) hx hb dX2_left_15 hl (by decide) rfl (fun ls hl => ?_)
    refine lv_iload hx hb dX2_left_17 (lv_at hl 0 rfl) ?_
    refine lv_iconst (v := nI 4) hx hb dX2_left_19 (by decide) ?_
    refine k_icmp_ge (tgt := 85) hx hb dX2_left_20 (by decide) (by omega) (by omega) (fun d0 => ?_) (fun d0 => ?_)
    · exact absurd d0 (by omega)
    · refine lv_aload_n hx hb dX2_left_23 rfl (lv_at hl 1 rfl) ?_
      refine va_get (D := D) (ci := 2) (v := .ref ma) (C := RX2) (T := TX2) (N := 5) hx hb hts in_X2 hown hK hP 0 rfl rfl 0 (by decide) (hts _ q160) (fun _ h9 => h9) rfl dX2_left_24 ?_
      refine lv_aload_n hx hb dX2_left_27 rfl (lv_at hl 1 rfl) ?_
      refine va_get (D := D) (ci := 2) (v := .int (nI nl)) (C := RX2) (T := TX2) (N := 5) hx hb hts in_X2 hown hK hP 0 rfl rfl 3 (by decide) (hts _ q163) (fun _ h9 => h9) rfl dX2_left_28 ?_
      refine lv_iload hx hb dX2_left_31 (lv_at hl 0 rfl) ?_
      refine k_if_ne (tgt := 40) hx hb dX2_left_33 (by decide) (by omega) (fun g0 => ?_) (fun g0 => ?_)
      · exact absurd rfl g0
      · refine lv_iload_n hx hb dX2_left_36 rfl (lv_at hl 2 rfl) ?_
        refine lv_goto (tgt := 62) hx hb dX2_left_37 (by decide) ?_
        refine lv_bipush (v := nI 12) hx hb dX2_left_62 (by decide) ?_
        refine lv_ishl hx hb dX2_left_64 ?_
        refine lv_bipush (v := nI 12) hx hb dX2_left_65 (by decide) ?_
        refine lv_ishr hx hb dX2_left_67 ?_
        refine k_ti (nt_num p1) rfl ?_
        refine k_iast hx hb hK hP hD hS 1 0 rfl rfl (by omega) (by decide) dX2_left_68 (fun H locs hP hD hS => ?_)
        have hP : va_P D vwCl [(hm, .inr (2, [.ref ma, .ref mb, .ref mz, .int (nI nl), .int (nI nr)])), (ma, .inl (cI, 256, .inl (upd f nl (nt_num p1))))] H := hP
        have hD : va_D A [(hm, .inr (2, [.ref ma, .ref mb, .ref mz, .int (nI nl), .int (nI nr)])), (ma, .inl (cI, 256, .inl (upd f nl (nt_num p1))))] := hD
        refine lv_aload_n hx hb dX2_left_69 rfl (lv_at hl 1 rfl) ?_
        refine lv_aload_n hx hb dX2_left_70 rfl (lv_at hl 1 rfl) ?_
        refine va_get (D := D) (ci := 2) (v := .int (nI nl)) (C := RX2) (T := TX2) (N := 5) hx hb hts in_X2 hown hK hP 0 rfl rfl 3 (by decide) (hts _ q163) (fun _ h9 => h9) rfl dX2_left_71 ?_
        refine lv_iconst (v := nI 1) hx hb dX2_left_74 (by decide) ?_
        refine k_iadd hx hb dX2_left_75  ?_
        refine k_ti (nI (nl + 1)) rfl ?_
        refine va_put (D := D) (ci := 2) (v := .int (nI (nl + 1))) (ty := .int) (C := RX2) (T := TX2) (N := 5) hx hb hts in_X2 tyX2 tyX2_ok nmX2 hown hK hP hD hS 0 rfl rfl 3 (by decide) (hts _ q163) (fun _ h9 => h9) rfl (by decide +kernel) rfl rfl (Nat.le_of_ble_eq_true rfl) dX2_left_76 (fun H locs hP hD hS => ?_)
        have hP : va_P D vwCl [(hm, .inr (2, [.ref ma, .ref mb, .ref mz, .int (nI (nl + 1)), .int (nI nr)])), (ma, .inl (cI, 256, .inl (upd f nl (nt_num p1))))] H := hP
        have hD : va_D A [(hm, .inr (2, [.ref ma, .ref mb, .ref mz, .int (nI (nl + 1)), .int (nI nr)])), (ma, .inl (cI, 256, .inl (upd f nl (nt_num p1))))] := hD
        refine lv_iinc (v := nI 1) (lv' := [(5, .int (nI 1)), (0, .ref hm), (1, .int p1), (2, .int p2), (3, .int p3), (4, .int p4)]) hx hb dX2_left_79 hl (k := 0) rfl (k_inc 0) (by decide) rfl (fun ls hl => ?_)
        refine lv_goto (tgt := 17) hx hb dX2_left_82 (by decide) ?_
        refine lv_iload hx hb dX2_left_17 (lv_at hl 0 rfl) ?_
        refine lv_iconst (v := nI 4) hx hb dX2_left_19 (by decide) ?_
        refine k_icmp_ge (tgt := 85) hx hb dX2_left_20 (by decide) (by omega) (by omega) (fun d1 => ?_) (fun d1 => ?_)
        · exact absurd d1 (by omega)
        · refine lv_aload_n hx hb dX2_left_23 rfl (lv_at hl 1 rfl) ?_
          refine va_get (D := D) (ci := 2) (v := .ref ma) (C := RX2) (T := TX2) (N := 5) hx hb hts in_X2 hown hK hP 0 rfl rfl 0 (by decide) (hts _ q160) (fun _ h9 => h9) rfl dX2_left_24 ?_
          refine lv_aload_n hx hb dX2_left_27 rfl (lv_at hl 1 rfl) ?_
          refine va_get (D := D) (ci := 2) (v := .int (nI (nl + 1))) (C := RX2) (T := TX2) (N := 5) hx hb hts in_X2 hown hK hP 0 rfl rfl 3 (by decide) (hts _ q163) (fun _ h9 => h9) rfl dX2_left_28 ?_
          refine lv_iload hx hb dX2_left_31 (lv_at hl 0 rfl) ?_
          refine k_if_ne (tgt := 40) hx hb dX2_left_33 (by decide) (by omega) (fun g1 => ?_) (fun g1 => ?_)
          · refine lv_iload hx hb dX2_left_40 (lv_at hl 0 rfl) ?_
            refine lv_iconst (v := nI 1) hx hb dX2_left_42 (by decide) ?_
            refine k_icmp_ne (tgt := 50) hx hb dX2_left_43 (by decide) (by omega) (by omega) (fun i1 => ?_) (fun i1 => ?_)
            · exact absurd rfl i1
            · refine lv_iload_n hx hb dX2_left_46 rfl (lv_at hl 3 rfl) ?_
              refine lv_goto (tgt := 62) hx hb dX2_left_47 (by decide) ?_
              refine lv_bipush (v := nI 12) hx hb dX2_left_62 (by decide) ?_
              refine lv_ishl hx hb dX2_left_64 ?_
              refine lv_bipush (v := nI 12) hx hb dX2_left_65 (by decide) ?_
              refine lv_ishr hx hb dX2_left_67 ?_
              refine k_ti (nt_num p2) rfl ?_
              refine k_iast hx hb hK hP hD hS 1 0 rfl rfl (by omega) (by decide) dX2_left_68 (fun H locs hP hD hS => ?_)
              have hP : va_P D vwCl [(hm, .inr (2, [.ref ma, .ref mb, .ref mz, .int (nI (nl + 1)), .int (nI nr)])), (ma, .inl (cI, 256, .inl (upd (upd f nl (nt_num p1)) (nl + 1) (nt_num p2))))] H := hP
              have hD : va_D A [(hm, .inr (2, [.ref ma, .ref mb, .ref mz, .int (nI (nl + 1)), .int (nI nr)])), (ma, .inl (cI, 256, .inl (upd (upd f nl (nt_num p1)) (nl + 1) (nt_num p2))))] := hD
              refine lv_aload_n hx hb dX2_left_69 rfl (lv_at hl 1 rfl) ?_
              refine lv_aload_n hx hb dX2_left_70 rfl (lv_at hl 1 rfl) ?_
              refine va_get (D := D) (ci := 2) (v := .int (nI (nl + 1))) (C := RX2) (T := TX2) (N := 5) hx hb hts in_X2 hown hK hP 0 rfl rfl 3 (by decide) (hts _ q163) (fun _ h9 => h9) rfl dX2_left_71 ?_
              refine lv_iconst (v := nI 1) hx hb dX2_left_74 (by decide) ?_
              refine k_iadd hx hb dX2_left_75  ?_
              refine k_ti (nI (nl + 2)) rfl ?_
              refine va_put (D := D) (ci := 2) (v := .int (nI (nl + 2))) (ty := .int) (C := RX2) (T := TX2) (N := 5) hx hb hts in_X2 tyX2 tyX2_ok nmX2 hown hK hP hD hS 0 rfl rfl 3 (by decide) (hts _ q163) (fun _ h9 => h9) rfl (by decide +kernel) rfl rfl (Nat.le_of_ble_eq_true rfl) dX2_left_76 (fun H locs hP hD hS => ?_)
              have hP : va_P D vwCl [(hm, .inr (2, [.ref ma, .ref mb, .ref mz, .int (nI (nl + 2)), .int (nI nr)])), (ma, .inl (cI, 256, .inl (upd (upd f nl (nt_num p1)) (nl + 1) (nt_num p2))))] H := hP
              have hD : va_D A [(hm, .inr (2, [.ref ma, .ref mb, .ref mz, .int (nI (nl + 2)), .int (nI nr)])), (ma, .inl (cI, 256, .inl (upd (upd f nl (nt_num p1)) (nl + 1) (nt_num p2))))] := hD
              refine lv_iinc (v := nI 2) (lv' := [(5, .int (nI 2)), (0, .ref hm), (1, .int p1), (2, .int p2), (3, .int p3), (4, .int p4)]) hx hb dX2_left_79 hl (k := 0) rfl (k_inc 1) (by decide) rfl (fun ls hl => ?_)
              refine lv_goto (tgt := 17) hx hb dX2_left_82 (by decide) ?_
              refine lv_iload hx hb dX2_left_17 (lv_at hl 0 rfl) ?_
              refine lv_iconst (v := nI 4) hx hb dX2_left_19 (by decide) ?_
              refine k_icmp_ge (tgt := 85) hx hb dX2_left_20 (by decide) (by omega) (by omega) (fun d2 => ?_) (fun d2 => ?_)
              · exact absurd d2 (by omega)
              · refine lv_aload_n hx hb dX2_left_23 rfl (lv_at hl 1 rfl) ?_
                refine va_get (D := D) (ci := 2) (v := .ref ma) (C := RX2) (T := TX2) (N := 5) hx hb hts in_X2 hown hK hP 0 rfl rfl 0 (by decide) (hts _ q160) (fun _ h9 => h9) rfl dX2_left_24 ?_
                refine lv_aload_n hx hb dX2_left_27 rfl (lv_at hl 1 rfl) ?_
                refine va_get (D := D) (ci := 2) (v := .int (nI (nl + 2))) (C := RX2) (T := TX2) (N := 5) hx hb hts in_X2 hown hK hP 0 rfl rfl 3 (by decide) (hts _ q163) (fun _ h9 => h9) rfl dX2_left_28 ?_
                refine lv_iload hx hb dX2_left_31 (lv_at hl 0 rfl) ?_
                refine k_if_ne (tgt := 40) hx hb dX2_left_33 (by decide) (by omega) (fun g2 => ?_) (fun g2 => ?_)
                · refine lv_iload hx hb dX2_left_40 (lv_at hl 0 rfl) ?_
                  refine lv_iconst (v := nI 1) hx hb dX2_left_42 (by decide) ?_
                  refine k_icmp_ne (tgt := 50) hx hb dX2_left_43 (by decide) (by omega) (by omega) (fun i2 => ?_) (fun i2 => ?_)
                  · refine lv_iload hx hb dX2_left_50 (lv_at hl 0 rfl) ?_
                    refine lv_iconst (v := nI 2) hx hb dX2_left_52 (by decide) ?_
                    refine k_icmp_ne (tgt := 60) hx hb dX2_left_53 (by decide) (by omega) (by omega) (fun j2 => ?_) (fun j2 => ?_)
                    · exact absurd rfl j2
                    · refine lv_iload_n hx hb dX2_left_56 rfl (lv_at hl 4 rfl) ?_
                      refine lv_goto (tgt := 62) hx hb dX2_left_57 (by decide) ?_
                      refine lv_bipush (v := nI 12) hx hb dX2_left_62 (by decide) ?_
                      refine lv_ishl hx hb dX2_left_64 ?_
                      refine lv_bipush (v := nI 12) hx hb dX2_left_65 (by decide) ?_
                      refine lv_ishr hx hb dX2_left_67 ?_
                      refine k_ti (nt_num p3) rfl ?_
                      refine k_iast hx hb hK hP hD hS 1 0 rfl rfl (by omega) (by decide) dX2_left_68 (fun H locs hP hD hS => ?_)
                      have hP : va_P D vwCl [(hm, .inr (2, [.ref ma, .ref mb, .ref mz, .int (nI (nl + 2)), .int (nI nr)])), (ma, .inl (cI, 256, .inl (upd (upd (upd f nl (nt_num p1)) (nl + 1) (nt_num p2)) (nl + 2) (nt_num p3))))] H := hP
                      have hD : va_D A [(hm, .inr (2, [.ref ma, .ref mb, .ref mz, .int (nI (nl + 2)), .int (nI nr)])), (ma, .inl (cI, 256, .inl (upd (upd (upd f nl (nt_num p1)) (nl + 1) (nt_num p2)) (nl + 2) (nt_num p3))))] := hD
                      refine lv_aload_n hx hb dX2_left_69 rfl (lv_at hl 1 rfl) ?_
                      refine lv_aload_n hx hb dX2_left_70 rfl (lv_at hl 1 rfl) ?_
                      refine va_get (D := D) (ci := 2) (v := .int (nI (nl + 2))) (C := RX2) (T := TX2) (N := 5) hx hb hts in_X2 hown hK hP 0 rfl rfl 3 (by decide) (hts _ q163) (fun _ h9 => h9) rfl dX2_left_71 ?_
                      refine lv_iconst (v := nI 1) hx hb dX2_left_74 (by decide) ?_
                      refine k_iadd hx hb dX2_left_75  ?_
                      refine k_ti (nI (nl + 3)) rfl ?_
                      refine va_put (D := D) (ci := 2) (v := .int (nI (nl + 3))) (ty := .int) (C := RX2) (T := TX2) (N := 5) hx hb hts in_X2 tyX2 tyX2_ok nmX2 hown hK hP hD hS 0 rfl rfl 3 (by decide) (hts _ q163) (fun _ h9 => h9) rfl (by decide +kernel) rfl rfl (Nat.le_of_ble_eq_true rfl) dX2_left_76 (fun H locs hP hD hS => ?_)
                      have hP : va_P D vwCl [(hm, .inr (2, [.ref ma, .ref mb, .ref mz, .int (nI (nl + 3)), .int (nI nr)])), (ma, .inl (cI, 256, .inl (upd (upd (upd f nl (nt_num p1)) (nl + 1) (nt_num p2)) (nl + 2) (nt_num p3))))] H := hP
                      have hD : va_D A [(hm, .inr (2, [.ref ma, .ref mb, .ref mz, .int (nI (nl + 3)), .int (nI nr)])), (ma, .inl (cI, 256, .inl (upd (upd (upd f nl (nt_num p1)) (nl + 1) (nt_num p2)) (nl + 2) (nt_num p3))))] := hD
                      refine lv_iinc (v := nI 3) (lv' := [(5, .int (nI 3)), (0, .ref hm), (1, .int p1), (2, .int p2), (3, .int p3), (4, .int p4)]) hx hb dX2_left_79 hl (k := 0) rfl (k_inc 2) (by decide) rfl (fun ls hl => ?_)
                      refine lv_goto (tgt := 17) hx hb dX2_left_82 (by decide) ?_
                      refine lv_iload hx hb dX2_left_17 (lv_at hl 0 rfl) ?_
                      refine lv_iconst (v := nI 4) hx hb dX2_left_19 (by decide) ?_
                      refine k_icmp_ge (tgt := 85) hx hb dX2_left_20 (by decide) (by omega) (by omega) (fun d3 => ?_) (fun d3 => ?_)
                      · exact absurd d3 (by omega)
                      · refine lv_aload_n hx hb dX2_left_23 rfl (lv_at hl 1 rfl) ?_
                        refine va_get (D := D) (ci := 2) (v := .ref ma) (C := RX2) (T := TX2) (N := 5) hx hb hts in_X2 hown hK hP 0 rfl rfl 0 (by decide) (hts _ q160) (fun _ h9 => h9) rfl dX2_left_24 ?_
                        refine lv_aload_n hx hb dX2_left_27 rfl (lv_at hl 1 rfl) ?_
                        refine va_get (D := D) (ci := 2) (v := .int (nI (nl + 3))) (C := RX2) (T := TX2) (N := 5) hx hb hts in_X2 hown hK hP 0 rfl rfl 3 (by decide) (hts _ q163) (fun _ h9 => h9) rfl dX2_left_28 ?_
                        refine lv_iload hx hb dX2_left_31 (lv_at hl 0 rfl) ?_
                        refine k_if_ne (tgt := 40) hx hb dX2_left_33 (by decide) (by omega) (fun g3 => ?_) (fun g3 => ?_)
                        · refine lv_iload hx hb dX2_left_40 (lv_at hl 0 rfl) ?_
                          refine lv_iconst (v := nI 1) hx hb dX2_left_42 (by decide) ?_
                          refine k_icmp_ne (tgt := 50) hx hb dX2_left_43 (by decide) (by omega) (by omega) (fun i3 => ?_) (fun i3 => ?_)
                          · refine lv_iload hx hb dX2_left_50 (lv_at hl 0 rfl) ?_
                            refine lv_iconst (v := nI 2) hx hb dX2_left_52 (by decide) ?_
                            refine k_icmp_ne (tgt := 60) hx hb dX2_left_53 (by decide) (by omega) (by omega) (fun j3 => ?_) (fun j3 => ?_)
                            · refine lv_iload hx hb dX2_left_60 (lv_at hl 5 rfl) ?_
                              refine lv_bipush (v := nI 12) hx hb dX2_left_62 (by decide) ?_
                              refine lv_ishl hx hb dX2_left_64 ?_
                              refine lv_bipush (v := nI 12) hx hb dX2_left_65 (by decide) ?_
                              refine lv_ishr hx hb dX2_left_67 ?_
                              refine k_ti (nt_num p4) rfl ?_
                              refine k_iast hx hb hK hP hD hS 1 0 rfl rfl (by omega) (by decide) dX2_left_68 (fun H locs hP hD hS => ?_)
                              have hP : va_P D vwCl [(hm, .inr (2, [.ref ma, .ref mb, .ref mz, .int (nI (nl + 3)), .int (nI nr)])), (ma, .inl (cI, 256, .inl (upd (upd (upd (upd f nl (nt_num p1)) (nl + 1) (nt_num p2)) (nl + 2) (nt_num p3)) (nl + 3) (nt_num p4))))] H := hP
                              have hD : va_D A [(hm, .inr (2, [.ref ma, .ref mb, .ref mz, .int (nI (nl + 3)), .int (nI nr)])), (ma, .inl (cI, 256, .inl (upd (upd (upd (upd f nl (nt_num p1)) (nl + 1) (nt_num p2)) (nl + 2) (nt_num p3)) (nl + 3) (nt_num p4))))] := hD
                              refine lv_aload_n hx hb dX2_left_69 rfl (lv_at hl 1 rfl) ?_
                              refine lv_aload_n hx hb dX2_left_70 rfl (lv_at hl 1 rfl) ?_
                              refine va_get (D := D) (ci := 2) (v := .int (nI (nl + 3))) (C := RX2) (T := TX2) (N := 5) hx hb hts in_X2 hown hK hP 0 rfl rfl 3 (by decide) (hts _ q163) (fun _ h9 => h9) rfl dX2_left_71 ?_
                              refine lv_iconst (v := nI 1) hx hb dX2_left_74 (by decide) ?_
                              refine k_iadd hx hb dX2_left_75  ?_
                              refine k_ti (nI (nl + 4)) rfl ?_
                              refine va_put (D := D) (ci := 2) (v := .int (nI (nl + 4))) (ty := .int) (C := RX2) (T := TX2) (N := 5) hx hb hts in_X2 tyX2 tyX2_ok nmX2 hown hK hP hD hS 0 rfl rfl 3 (by decide) (hts _ q163) (fun _ h9 => h9) rfl (by decide +kernel) rfl rfl (Nat.le_of_ble_eq_true rfl) dX2_left_76 (fun H locs hP hD hS => ?_)
                              have hP : va_P D vwCl [(hm, .inr (2, [.ref ma, .ref mb, .ref mz, .int (nI (nl + 4)), .int (nI nr)])), (ma, .inl (cI, 256, .inl (upd (upd (upd (upd f nl (nt_num p1)) (nl + 1) (nt_num p2)) (nl + 2) (nt_num p3)) (nl + 3) (nt_num p4))))] H := hP
                              have hD : va_D A [(hm, .inr (2, [.ref ma, .ref mb, .ref mz, .int (nI (nl + 4)), .int (nI nr)])), (ma, .inl (cI, 256, .inl (upd (upd (upd (upd f nl (nt_num p1)) (nl + 1) (nt_num p2)) (nl + 2) (nt_num p3)) (nl + 3) (nt_num p4))))] := hD
                              refine lv_iinc (v := nI 4) (lv' := [(5, .int (nI 4)), (0, .ref hm), (1, .int p1), (2, .int p2), (3, .int p3), (4, .int p4)]) hx hb dX2_left_79 hl (k := 0) rfl (k_inc 3) (by decide) rfl (fun ls hl => ?_)
                              refine lv_goto (tgt := 17) hx hb dX2_left_82 (by decide) ?_
                              refine lv_iload hx hb dX2_left_17 (lv_at hl 0 rfl) ?_
                              refine lv_iconst (v := nI 4) hx hb dX2_left_19 (by decide) ?_
                              refine k_icmp_ge (tgt := 85) hx hb dX2_left_20 (by decide) (by omega) (by omega) (fun d4 => ?_) (fun d4 => ?_)
                              · refine lv_iconst (v := nI 1) hx hb dX2_left_85 (by decide) ?_
                                exact W.zret (v := nI 1) hx hb hr rfl (fun t ht hW => ⟨⟨nI 1, (nt_put4 f nl p1 p2 p3 p4, nl + 4), rfl, ⟨fun _ => ⟨rfl, rfl, rfl⟩, fun h => absurd h (by omega)⟩, by rw [ht]; exact hP, va_K.moved hW.alike hK, hD⟩, hS.F ht⟩) hS.2.2 dX2_left_86
                              · exact absurd d4 (by omega)
                            · exact absurd j3 (by decide)
                          · exact absurd i3 (by decide)
                        · exact absurd g3 (by decide)
                  · exact absurd i2 (by decide)
                · exact absurd g2 (by decide)
          · exact absurd g1 (by decide)
  · refine lv_iconst (v := nI 0) hx hb dX2_left_12 (by decide) ?_
    exact W.zret (v := nI 0) hx hb hr rfl (fun t ht hW => ⟨⟨nI 0, (f, nl), rfl, ⟨fun h => absurd h (by omega), fun _ => ⟨rfl, rfl, rfl⟩⟩, by rw [ht]; exact hP, va_K.moved hW.alike hK, hD⟩, hS.F ht⟩) hS.2.2 dX2_left_13
set_option maxHeartbeats 4000000 in
set_option maxRecDepth 100000 in
/-- right of the model -/
theorem m_mright (l : Launch) (D : va_G) (hm ma mb mz nl nr : Nat) (cI : ClassId) (f : Nat → Int32) (p1 p2 p3 p4 : Int32) (hn : nr ≤ 256) : k_Mi l yX2_right cX2_right 6 (some .boolean) rk0 D [.ref hm, .int p1, .int p2, .int p3, .int p4] [(hm, .inr (2, [.ref ma, .ref mb, .ref mz, .int (nI nl), .int (nI nr)])), (mb, .inl (cI, 256, .inl f))] [(cI, .int)] (fun r (u : (Nat → Int32) × Nat) => nt_p4 f nr p1 p2 p3 p4 r u) (fun (u : (Nat → Int32) × Nat) => [(hm, .inr (2, [.ref ma, .ref mb, .ref mz, .int (nI nl), .int (nI u.2)])), (mb, .inl (cI, 256, .inl u.1))]) := by
  intro sz
  refine k_met (Qc := fun A => va_Qi (fun r (u : (Nat → Int32) × Nat) => nt_p4 f nr p1 p2 p3 p4 r u) (fun (u : (Nat → Int32) × Nat) t => k_B D A [(hm, .inr (2, [.ref ma, .ref mb, .ref mz, .int (nI nl), .int (nI u.2)])), (mb, .inl (cI, 256, .inl u.1))] [(cI, .int)] t) A) (by decide) (Nat.le_of_ble_eq_true rfl) ?_
  intro p e s m below meth c A ls C hP hK hD hA hS hl
  obtain ⟨hx, hb, hml, hr, hlocks, hown, hin, hts⟩ := id C
  have hown : s.vm.findClass RX2 = some m.cls := hown
  have hl : lv_has ls 6 [(0, .ref hm), (1, .int p1), (2, .int p2), (3, .int p3), (4, .int p4)] := hl
  refine lv_aload_n hx hb dX2_right_0 rfl (lv_at hl 0 rfl) ?_
  refine va_get (D := D) (ci := 2) (v := .int (nI nr)) (C := RX2) (T := TX2) (N := 5) hx hb hts in_X2 hown hK hP 0 rfl rfl 4 (by decide) (hts _ q164) (fun _ h9 => h9) rfl dX2_right_1 ?_
  refine lv_iconst (v := nI 4) hx hb dX2_right_4 (by decide) ?_
  refine k_iadd hx hb dX2_right_5  ?_
  refine lv_sipush (v := nI 256) hx hb dX2_right_6 (by decide) ?_
  refine k_icmp_le (tgt := 14) hx hb dX2_right_9 (by decide) (by omega) (by omega) (fun c1 => ?_) (fun c1 => ?_)
  · refine lv_iconst (v := nI 0) hx hb dX2_right_14 (by decide) ?_
    refine lv_istore (lv' := [(5, .int (nI 0)), (0, .ref hm), (1, .int p1), (2, .int p2), (3, .int p3), (4, .int p4)]) hx hb dX2_right_15 hl (by decide) rfl (fun ls hl => ?_)
    refine lv_iload hx hb dX2_right_17 (lv_at hl 0 rfl) ?_
    refine lv_iconst (v := nI 4) hx hb dX2_right_19 (by decide) ?_
    refine k_icmp_ge (tgt := 85) hx hb dX2_right_20 (by decide) (by omega) (by omega) (fun d0 => ?_) (fun d0 => ?_)
    · exact absurd d0 (by omega)
    · refine lv_aload_n hx hb dX2_right_23 rfl (lv_at hl 1 rfl) ?_
      refine va_get (D := D) (ci := 2) (v := .ref mb) (C := RX2) (T := TX2) (N := 5) hx hb hts in_X2 hown hK hP 0 rfl rfl 1 (by decide) (hts _ q161) (fun _ h9 => h9) rfl dX2_right_24 ?_
      refine lv_aload_n hx hb dX2_right_27 rfl (lv_at hl 1 rfl) ?_
      refine va_get (D := D) (ci := 2) (v := .int (nI nr)) (C := RX2) (T := TX2) (N := 5) hx hb hts in_X2 hown hK hP 0 rfl rfl 4 (by decide) (hts _ q164) (fun _ h9 => h9) rfl dX2_right_28 ?_
      refine lv_iload hx hb dX2_right_31 (lv_at hl 0 rfl) ?_
      refine k_if_ne (tgt := 40) hx hb dX2_right_33 (by decide) (by omega) (fun g0 => ?_) (fun g0 => ?_)
      · exact absurd rfl g0
      · refine lv_iload_n hx hb dX2_right_36 rfl (lv_at hl 2 rfl) ?_
        refine lv_goto (tgt := 62) hx hb dX2_right_37 (by decide) ?_
        refine lv_bipush (v := nI 12) hx hb dX2_right_62 (by decide) ?_
        refine lv_ishl hx hb dX2_right_64 ?_
        refine lv_bipush (v := nI 12) hx hb dX2_right_65 (by decide) ?_
        refine lv_ishr hx hb dX2_right_67 ?_
        refine k_ti (nt_num p1) rfl ?_
        refine k_iast hx hb hK hP hD hS 1 0 rfl rfl (by omega) (by decide) dX2_right_68 (fun H locs hP hD hS => ?_)
        have hP : va_P D vwCl [(hm, .inr (2, [.ref ma, .ref mb, .ref mz, .int (nI nl), .int (nI nr)])), (mb, .inl (cI, 256, .inl (upd f nr (nt_num p1))))] H := hP
        have hD : va_D A [(hm, .inr (2, [.ref ma, .ref mb, .ref mz, .int (nI nl), .int (nI nr)])), (mb, .inl (cI, 256, .inl (upd f nr (nt_num p1))))] := hD
        refine lv_aload_n hx hb dX2_right_69 rfl (lv_at hl 1 rfl) ?_
        refine lv_aload_n hx hb dX2_right_70 rfl (lv_at hl 1 rfl) ?_
        refine va_get (D := D) (ci := 2) (v := .int (nI nr)) (C := RX2) (T := TX2) (N := 5) hx hb hts in_X2 hown hK hP 0 rfl rfl 4 (by decide) (hts _ q164) (fun _ h9 => h9) rfl dX2_right_71 ?_
        refine lv_iconst (v := nI 1) hx hb dX2_right_74 (by decide) ?_
        refine k_iadd hx hb dX2_right_75  ?_
        refine k_ti (nI (nr + 1)) rfl ?_
        refine va_put (D := D) (ci := 2) (v := .int (nI (nr + 1))) (ty := .int) (C := RX2) (T := TX2) (N := 5) hx hb hts in_X2 tyX2 tyX2_ok nmX2 hown hK hP hD hS 0 rfl rfl 4 (by decide) (hts _ q164) (fun _ h9 => h9) rfl (by decide +kernel) rfl rfl (Nat.le_of_ble_eq_true rfl) dX2_right_76 (fun H locs hP hD hS => ?_)
        have hP : va_P D vwCl [(hm, .inr (2, [.ref ma, .ref mb, .ref mz, .int (nI nl), .int (nI (nr + 1))])), (mb, .inl (cI, 256, .inl (upd f nr (nt_num p1))))] H := hP
        have hD : va_D A [(hm, .inr (2, [.ref ma, .ref mb, .ref mz, .int (nI nl), .int (nI (nr + 1))])), (mb, .inl (cI, 256, .inl (upd f nr (nt_num p1))))] := hD
        refine lv_iinc (v := nI 1) (lv' := [(5, .int (nI 1)), (0, .ref hm), (1, .int p1), (2, .int p2), (3, .int p3), (4, .int p4)]) hx hb dX2_right_79 hl (k := 0) rfl (k_inc 0) (by decide) rfl (fun ls hl => ?_)
        refine lv_goto (tgt := 17) hx hb dX2_right_82 (by decide) ?_
        refine lv_iload hx hb dX2_right_17 (lv_at hl 0 rfl) ?_
        refine lv_iconst (v := nI 4) hx hb dX2_right_19 (by decide) ?_
        refine k_icmp_ge (tgt := 85) hx hb dX2_right_20 (by decide) (by omega) (by omega) (fun d1 => ?_) (fun d1 => ?_)
        · exact absurd d1 (by omega)
        · refine lv_aload_n hx hb dX2_right_23 rfl (lv_at hl 1 rfl) ?_
          refine va_get (D := D) (ci := 2) (v := .ref mb) (C := RX2) (T := TX2) (N := 5) hx hb hts in_X2 hown hK hP 0 rfl rfl 1 (by decide) (hts _ q161) (fun _ h9 => h9) rfl dX2_right_24 ?_
          refine lv_aload_n hx hb dX2_right_27 rfl (lv_at hl 1 rfl) ?_
          refine va_get (D := D) (ci := 2) (v := .int (nI (nr + 1))) (C := RX2) (T := TX2) (N := 5) hx hb hts in_X2 hown hK hP 0 rfl rfl 4 (by decide) (hts _ q164) (fun _ h9 => h9) rfl dX2_right_28 ?_
          refine lv_iload hx hb dX2_right_31 (lv_at hl 0 rfl) ?_
          refine k_if_ne (tgt := 40) hx hb dX2_right_33 (by decide) (by omega) (fun g1 => ?_) (fun g1 => ?_)
          · refine lv_iload hx hb dX2_right_40 (lv_at hl 0 rfl) ?_
            refine lv_iconst (v := nI 1) hx hb dX2_right_42 (by decide) ?_
            refine k_icmp_ne (tgt := 50) hx hb dX2_right_43 (by decide) (by omega) (by omega) (fun i1 => ?_) (fun i1 => ?_)
            · exact absurd rfl i1
            · refine lv_iload_n hx hb dX2_right_46 rfl (lv_at hl 3 rfl) ?_
              refine lv_goto (tgt := 62) hx hb dX2_right_47 (by decide) ?_
              refine lv_bipush (v := nI 12) hx hb dX2_right_62 (by decide) ?_
              refine lv_ishl hx hb dX2_right_64 ?_
              refine lv_bipush (v := nI 12) hx hb dX2_right_65 (by decide) ?_
              refine lv_ishr hx hb dX2_right_67 ?_
              refine k_ti (nt_num p2) rfl ?_
              refine k_iast hx hb hK hP hD hS 1 0 rfl rfl (by omega) (by decide) dX2_right_68 (fun H locs hP hD hS => ?_)
              have hP : va_P D vwCl [(hm, .inr (2, [.ref ma, .ref mb, .ref mz, .int (nI nl), .int (nI (nr + 1))])), (mb, .inl (cI, 256, .inl (upd (upd f nr (nt_num p1)) (nr + 1) (nt_num p2))))] H := hP
              have hD : va_D A [(hm, .inr (2, [.ref ma, .ref mb, .ref mz, .int (nI nl), .int (nI (nr + 1))])), (mb, .inl (cI, 256, .inl (upd (upd f nr (nt_num p1)) (nr + 1) (nt_num p2))))] := hD
              refine lv_aload_n hx hb dX2_right_69 rfl (lv_at hl 1 rfl) ?_
              refine lv_aload_n hx hb dX2_right_70 rfl (lv_at hl 1 rfl) ?_
              refine va_get (D := D) (ci := 2) (v := .int (nI (nr + 1))) (C := RX2) (T := TX2) (N := 5) hx hb hts in_X2 hown hK hP 0 rfl rfl 4 (by decide) (hts _ q164) (fun _ h9 => h9) rfl dX2_right_71 ?_
              refine lv_iconst (v := nI 1) hx hb dX2_right_74 (by decide) ?_
              refine k_iadd hx hb dX2_right_75  ?_
              refine k_ti (nI (nr + 2)) rfl ?_
              refine va_put (D := D) (ci := 2) (v := .int (nI (nr + 2))) (ty := .int) (C := RX2) (T := TX2) (N := 5) hx hb hts in_X2 tyX2 tyX2_ok nmX2 hown hK hP hD hS 0 rfl rfl 4 (by decide) (hts _ q164) (fun _ h9 => h9) rfl (by decide +kernel) rfl rfl (Nat.le_of_ble_eq_true rfl) dX2_right_76 (fun H locs hP hD hS => ?_)
              have hP : va_P D vwCl [(hm, .inr (2, [.ref ma, .ref mb, .ref mz, .int (nI nl), .int (nI (nr + 2))])), (mb, .inl (cI, 256, .inl (upd (upd f nr (nt_num p1)) (nr + 1) (nt_num p2))))] H := hP
              have hD : va_D A [(hm, .inr (2, [.ref ma, .ref mb, .ref mz, .int (nI nl), .int (nI (nr + 2))])), (mb, .inl (cI, 256, .inl (upd (upd f nr (nt_num p1)) (nr + 1) (nt_num p2))))] := hD
              refine lv_iinc (v := nI 2) (lv' := [(5, .int (nI 2)), (0, .ref hm), (1, .int p1), (2, .int p2), (3, .int p3), (4, .int p4)]) hx hb dX2_right_79 hl (k := 0) rfl (k_inc 1) (by decide) rfl (fun ls hl => ?_)
              refine lv_goto (tgt := 17) hx hb dX2_right_82 (by decide) ?_
              refine lv_iload hx hb dX2_right_17 (lv_at hl 0 rfl) ?_
              refine lv_iconst (v := nI 4) hx hb dX2_right_19 (by decide) ?_
              refine k_icmp_ge (tgt := 85) hx hb dX2_right_20 (by decide) (by omega) (by omega) (fun d2 => ?_) (fun d2 => ?_)
              · exact absurd d2 (by omega)
              · refine lv_aload_n hx hb dX2_right_23 rfl (lv_at hl 1 rfl) ?_
                refine va_get (D := D) (ci := 2) (v := .ref mb) (C := RX2) (T := TX2) (N := 5) hx hb hts in_X2 hown hK hP 0 rfl rfl 1 (by decide) (hts _ q161) (fun _ h9 => h9) rfl dX2_right_24 ?_
                refine lv_aload_n hx hb dX2_right_27 rfl (lv_at hl 1 rfl) ?_
                refine va_get (D := D) (ci := 2) (v := .int (nI (nr + 2))) (C := RX2) (T := TX2) (N := 5) hx hb hts in_X2 hown hK hP 0 rfl rfl 4 (by decide) (hts _ q164) (fun _ h9 => h9) rfl dX2_right_28 ?_
                refine lv_iload hx hb dX2_right_31 (lv_at hl 0 rfl) ?_
                refine k_if_ne (tgt := 40) hx hb dX2_right_33 (by decide) (by omega) (fun g2 => ?_) (fun g2 => ?_)
                · refine lv_iload hx hb dX2_right_40 (lv_at hl 0 rfl) ?_
                  refine lv_iconst (v := nI 1) hx hb dX2_right_42 (by decide) ?_
                  refine k_icmp_ne (tgt := 50) hx hb dX2_right_43 (by decide) (by omega) (by omega) (fun i2 => ?_) (fun i2 => ?_)
                  · refine lv_iload hx hb dX2_right_50 (lv_at hl 0 rfl) ?_
                    refine lv_iconst (v := nI 2) hx hb dX2_right_52 (by decide) ?_
                    refine k_icmp_ne (tgt := 60) hx hb dX2_right_53 (by decide) (by omega) (by omega) (fun j2 => ?_) (fun j2 => ?_)
                    · exact absurd rfl j2
                    · refine lv_iload_n hx hb dX2_right_56 rfl (lv_at hl 4 rfl) ?_
                      refine lv_goto (tgt := 62) hx hb dX2_right_57 (by decide) ?_
                      refine lv_bipush (v := nI 12) hx hb dX2_right_62 (by decide) ?_
                      refine lv_ishl hx hb dX2_right_64 ?_
                      refine lv_bipush (v := nI 12) hx hb dX2_right_65 (by decide) ?_
                      refine lv_ishr hx hb dX2_right_67 ?_
                      refine k_ti (nt_num p3) rfl ?_
                      refine k_iast hx hb hK hP hD hS 1 0 rfl rfl (by omega) (by decide) dX2_right_68 (fun H locs hP hD hS => ?_)
                      have hP : va_P D vwCl [(hm, .inr (2, [.ref ma, .ref mb, .ref mz, .int (nI nl), .int (nI (nr + 2))])), (mb, .inl (cI, 256, .inl (upd (upd (upd f nr (nt_num p1)) (nr + 1) (nt_num p2)) (nr + 2) (nt_num p3))))] H := hP
                      have hD : va_D A [(hm, .inr (2, [.ref ma, .ref mb, .ref mz, .int (nI nl), .int (nI (nr + 2))])), (mb, .inl (cI, 256, .inl (upd (upd (upd f nr (nt_num p1)) (nr + 1) (nt_num p2)) (nr + 2) (nt_num p3))))] := hD
                      refine lv_aload_n hx hb dX2_right_69 rfl (lv_at hl 1 rfl) ?_
                      refine lv_aload_n hx hb dX2_right_70 rfl (lv_at hl 1 rfl) ?_
                      refine va_get (D := D) (ci := 2) (v := .int (nI (nr + 2))) (C := RX2) (T := TX2) (N := 5) hx hb hts in_X2 hown hK hP 0 rfl rfl 4 (by decide) (hts _ q164) (fun _ h9 => h9) rfl dX2_right_71 ?_
                      refine lv_iconst (v := nI 1) hx hb dX2_right_74 (by decide) ?_
                      refine k_iadd hx hb dX2_right_75  ?_
                      refine k_ti (nI (nr + 3)) rfl ?_
                      refine va_put (D := D) (ci := 2) (v := .int (nI (nr + 3))) (ty := .int) (C := RX2) (T := TX2) (N := 5) hx hb hts in_X2 tyX2 tyX2_ok nmX2 hown hK hP hD hS 0 rfl rfl 4 (by decide) (hts _ q164) (fun _ h9 => h9) rfl (by decide +kernel) rfl rfl (Nat.le_of_ble_eq_true rfl) dX2_right_76 (fun H locs hP hD hS => ?_)
                      have hP : va_P D vwCl [(hm, .inr (2, [.ref ma, .ref mb, .ref mz, .int (nI nl), .int (nI (nr + 3))])), (mb, .inl (cI, 256, .inl (upd (upd (upd f nr (nt_num p1)) (nr + 1) (nt_num p2)) (nr + 2) (nt_num p3))))] H := hP
                      have hD : va_D A [(hm, .inr (2, [.ref ma, .ref mb, .ref mz, .int (nI nl), .int (nI (nr + 3))])), (mb, .inl (cI, 256, .inl (upd (upd (upd f nr (nt_num p1)) (nr + 1) (nt_num p2)) (nr + 2) (nt_num p3))))] := hD
                      refine lv_iinc (v := nI 3) (lv' := [(5, .int (nI 3)), (0, .ref hm), (1, .int p1), (2, .int p2), (3, .int p3), (4, .int p4)]) hx hb dX2_right_79 hl (k := 0) rfl (k_inc 2) (by decide) rfl (fun ls hl => ?_)
                      refine lv_goto (tgt := 17) hx hb dX2_right_82 (by decide) ?_
                      refine lv_iload hx hb dX2_right_17 (lv_at hl 0 rfl) ?_
                      refine lv_iconst (v := nI 4) hx hb dX2_right_19 (by decide) ?_
                      refine k_icmp_ge (tgt := 85) hx hb dX2_right_20 (by decide) (by omega) (by omega) (fun d3 => ?_) (fun d3 => ?_)
                      · exact absurd d3 (by omega)
                      · refine lv_aload_n hx hb dX2_right_23 rfl (lv_at hl 1 rfl) ?_
                        refine va_get (D := D) (ci := 2) (v := .ref mb) (C := RX2) (T := TX2) (N := 5) hx hb hts in_X2 hown hK hP 0 rfl rfl 1 (by decide) (hts _ q161) (fun _ h9 => h9) rfl dX2_right_24 ?_
                        refine lv_aload_n hx hb dX2_right_27 rfl (lv_at hl 1 rfl) ?_
                        refine va_get (D := D) (ci := 2) (v := .int (nI (nr + 3))) (C := RX2) (T := TX2) (N := 5) hx hb hts in_X2 hown hK hP 0 rfl rfl 4 (by decide) (hts _ q164) (fun _ h9 => h9) rfl dX2_right_28 ?_
                        refine lv_iload hx hb dX2_right_31 (lv_at hl 0 rfl) ?_
                        refine k_if_ne (tgt := 40) hx hb dX2_right_33 (by decide) (by omega) (fun g3 => ?_) (fun g3 => ?_)
                        · refine lv_iload hx hb dX2_right_40 (lv_at hl 0 rfl) ?_
                          refine lv_iconst (v := nI 1) hx hb dX2_right_42 (by decide) ?_
                          refine k_icmp_ne (tgt := 50) hx hb dX2_right_43 (by decide) (by omega) (by omega) (fun i3 => ?_) (fun i3 => ?_)
                          · refine lv_iload hx hb dX2_right_50 (lv_at hl 0 rfl) ?_
                            refine lv_iconst (v := nI 2) hx hb dX2_right_52 (by decide) ?_
                            refine k_icmp_ne (tgt := 60) hx hb dX2_right_53 (by decide) (by omega) (by omega) (fun j3 => ?_) (fun j3 => ?_)
                            · refine lv_iload hx hb dX2_right_60 (lv_at hl 5 rfl) ?_
                              refine lv_bipush (v := nI 12) hx hb dX2_right_62 (by decide) ?_
                              refine lv_ishl hx hb dX2_right_64 ?_
                              refine lv_bipush (v := nI 12) hx hb dX2_right_65 (by decide) ?_
                              refine lv_ishr hx hb dX2_right_67 ?_
                              refine k_ti (nt_num p4) rfl ?_
                              refine k_iast hx hb hK hP hD hS 1 0 rfl rfl (by omega) (by decide) dX2_right_68 (fun H locs hP hD hS => ?_)
                              have hP : va_P D vwCl [(hm, .inr (2, [.ref ma, .ref mb, .ref mz, .int (nI nl), .int (nI (nr + 3))])), (mb, .inl (cI, 256, .inl (upd (upd (upd (upd f nr (nt_num p1)) (nr + 1) (nt_num p2)) (nr + 2) (nt_num p3)) (nr + 3) (nt_num p4))))] H := hP
                              have hD : va_D A [(hm, .inr (2, [.ref ma, .ref mb, .ref mz, .int (nI nl), .int (nI (nr + 3))])), (mb, .inl (cI, 256, .inl (upd (upd (upd (upd f nr (nt_num p1)) (nr + 1) (nt_num p2)) (nr + 2) (nt_num p3)) (nr + 3) (nt_num p4))))] := hD
                              refine lv_aload_n hx hb dX2_right_69 rfl (lv_at hl 1 rfl) ?_
                              refine lv_aload_n hx hb dX2_right_70 rfl (lv_at hl 1 rfl) ?_
                              refine va_get (D := D) (ci := 2) (v := .int (nI (nr + 3))) (C := RX2) (T := TX2) (N := 5) hx hb hts in_X2 hown hK hP 0 rfl rfl 4 (by decide) (hts _ q164) (fun _ h9 => h9) rfl dX2_right_71 ?_
                              refine lv_iconst (v := nI 1) hx hb dX2_right_74 (by decide) ?_
                              refine k_iadd hx hb dX2_right_75  ?_
                              refine k_ti (nI (nr + 4)) rfl ?_
                              refine va_put (D := D) (ci := 2) (v := .int (nI (nr + 4))) (ty := .int) (C := RX2) (T := TX2) (N := 5) hx hb hts in_X2 tyX2 tyX2_ok nmX2 hown hK hP hD hS 0 rfl rfl 4 (by decide) (hts _ q164) (fun _ h9 => h9) rfl (by decide +kernel) rfl rfl (Nat.le_of_ble_eq_true rfl) dX2_right_76 (fun H locs hP hD hS => ?_)
                              have hP : va_P D vwCl [(hm, .inr (2, [.ref ma, .ref mb, .ref mz, .int (nI nl), .int (nI (nr + 4))])), (mb, .inl (cI, 256, .inl (upd (upd (upd (upd f nr (nt_num p1)) (nr + 1) (nt_num p2)) (nr + 2) (nt_num p3)) (nr + 3) (nt_num p4))))] H := hP
                              have hD : va_D A [(hm, .inr (2, [.ref ma, .ref mb, .ref mz, .int (nI nl), .int (nI (nr + 4))])), (mb, .inl (cI, 256, .inl (upd (upd (upd (upd f nr (nt_num p1)) (nr + 1) (nt_num p2)) (nr + 2) (nt_num p3)) (nr + 3) (nt_num p4))))] := hD
                              refine lv_iinc (v := nI 4) (lv' := [(5, .int (nI 4)), (0, .ref hm), (1, .int p1), (2, .int p2), (3, .int p3), (4, .int p4)]) hx hb dX2_right_79 hl (k := 0) rfl (k_inc 3) (by decide) rfl (fun ls hl => ?_)
                              refine lv_goto (tgt := 17) hx hb dX2_right_82 (by decide) ?_
                              refine lv_iload hx hb dX2_right_17 (lv_at hl 0 rfl) ?_
                              refine lv_iconst (v := nI 4) hx hb dX2_right_19 (by decide) ?_
                              refine k_icmp_ge (tgt := 85) hx hb dX2_right_20 (by decide) (by omega) (by omega) (fun d4 => ?_) (fun d4 => ?_)
                              · refine lv_iconst (v := nI 1) hx hb dX2_right_85 (by decide) ?_
                                exact W.zret (v := nI 1) hx hb hr rfl (fun t ht hW => ⟨⟨nI 1, (nt_put4 f nr p1 p2 p3 p4, nr + 4), rfl, ⟨fun _ => ⟨rfl, rfl, rfl⟩, fun h => absurd h (by omega)⟩, by rw [ht]; exact hP, va_K.moved hW.alike hK, hD⟩, hS.F ht⟩) hS.2.2 dX2_right_86
                              · exact absurd d4 (by omega)
                            · exact absurd j3 (by decide)
                          · exact absurd i3 (by decide)
                        · exact absurd g3 (by decide)
                  · exact absurd i2 (by decide)
                · exact absurd g2 (by decide)
          · exact absurd g1 (by decide)
  · refine lv_iconst (v := nI 0) hx hb dX2_right_12 (by decide) ?_
    exact W.zret (v := nI 0) hx hb hr rfl (fun t ht hW => ⟨⟨nI 0, (f, nr), rfl, ⟨fun h => absurd h (by omega), fun _ => ⟨rfl, rfl, rfl⟩⟩, by rw [ht]; exact hP, va_K.moved hW.alike hK, hD⟩, hS.F ht⟩) hS.2.2 dX2_right_13
set_option maxHeartbeats 4000000 in
set_option maxRecDepth 100000 in
/-- wipe of the model -/
theorem m_mwipe (l : Launch) (D : va_G) (hm ma mb mz nl nr : Nat) (kd : Int32) : k_Mv l yX2_wipe cX2_wipe 2 rk0 D [.ref hm, .int kd] [(hm, .inr (2, [.ref ma, .ref mb, .ref mz, .int (nI nl), .int (nI nr)]))] [] (fun u : Nat × Nat => u = if kd &&& nI 1 = 0 then (0, nr) else (nl, 0)) (fun (u : Nat × Nat) => [(hm, .inr (2, [.ref ma, .ref mb, .ref mz, .int (nI u.1), .int (nI u.2)]))]) (fun _ => []) 0 0 := by
  intro sz
  refine k_met (Qc := fun A => va_Qv (fun u : Nat × Nat => u = if kd &&& nI 1 = 0 then (0, nr) else (nl, 0)) (fun (u : Nat × Nat) t => k_B D A [(hm, .inr (2, [.ref ma, .ref mb, .ref mz, .int (nI u.1), .int (nI u.2)]))] [] t) A) (by decide) (Nat.le_of_ble_eq_true rfl) ?_
  intro p e s m below meth c A ls C hP hK hD hA hS hl
  obtain ⟨hx, hb, hml, hr, hlocks, hown, hin, hts⟩ := id C
  have hown : s.vm.findClass RX2 = some m.cls := hown
  have hl : lv_has ls 2 [(0, .ref hm), (1, .int kd)] := hl
  refine lv_iload_n hx hb dX2_wipe_0 rfl (lv_at hl 1 rfl) ?_
  refine lv_iconst (v := nI 1) hx hb dX2_wipe_1 (by decide) ?_
  refine lv_iand hx hb dX2_wipe_2 ?_
  refine lv_if_ne (tgt := 14) hx hb dX2_wipe_3 (by decide)  (fun c1 => ?_) (fun c1 => ?_)
  · refine lv_aload_n hx hb dX2_wipe_14 rfl (lv_at hl 0 rfl) ?_
    refine lv_iconst (v := nI 0) hx hb dX2_wipe_15 (by decide) ?_
    refine va_put (D := D) (ci := 2) (v := .int (nI 0)) (ty := .int) (C := RX2) (T := TX2) (N := 5) hx hb hts in_X2 tyX2 tyX2_ok nmX2 hown hK hP hD hS 0 rfl rfl 4 (by decide) (hts _ q164) (fun _ h9 => h9) rfl (by decide +kernel) rfl rfl (Nat.le_of_ble_eq_true rfl) dX2_wipe_16 (fun H locs hP hD hS => ?_)
    have hP : va_P D vwCl [(hm, .inr (2, [.ref ma, .ref mb, .ref mz, .int (nI nl), .int (nI 0)]))] H := hP
    have hD : va_D A [(hm, .inr (2, [.ref ma, .ref mb, .ref mz, .int (nI nl), .int (nI 0)]))] := hD
    exact W.vret hx hb hr (fun t ht hW => ⟨⟨(nl, 0), rfl, (if_neg c1).symm, by rw [ht]; exact hP, va_K.moved hW.alike hK, hD⟩, hS.F ht⟩) hS.2.2 dX2_wipe_19
  · refine lv_aload_n hx hb dX2_wipe_6 rfl (lv_at hl 0 rfl) ?_
    refine lv_iconst (v := nI 0) hx hb dX2_wipe_7 (by decide) ?_
    refine va_put (D := D) (ci := 2) (v := .int (nI 0)) (ty := .int) (C := RX2) (T := TX2) (N := 5) hx hb hts in_X2 tyX2 tyX2_ok nmX2 hown hK hP hD hS 0 rfl rfl 3 (by decide) (hts _ q163) (fun _ h9 => h9) rfl (by decide +kernel) rfl rfl (Nat.le_of_ble_eq_true rfl) dX2_wipe_8 (fun H locs hP hD hS => ?_)
    have hP : va_P D vwCl [(hm, .inr (2, [.ref ma, .ref mb, .ref mz, .int (nI 0), .int (nI nr)]))] H := hP
    have hD : va_D A [(hm, .inr (2, [.ref ma, .ref mb, .ref mz, .int (nI 0), .int (nI nr)]))] := hD
    refine lv_goto (tgt := 19) hx hb dX2_wipe_11 (by decide) ?_
    exact W.vret hx hb hr (fun t ht hW => ⟨⟨(0, nr), rfl, (if_pos c1).symm, by rw [ht]; exact hP, va_K.moved hW.alike hK, hD⟩, hS.F ht⟩) hS.2.2 dX2_wipe_19
set_option maxHeartbeats 4000000 in
set_option maxRecDepth 100000 in
/-- at of the model -/
theorem m_mat (l : Launch) (D : va_G) (hm ma mb mz nl nr : Nat) (cJ : ClassId) (F : Nat → Int64) (i : Int32) : k_Ml l yX2_at cX2_at 2 rk0 D [.ref hm, .int i] [(hm, .inr (2, [.ref ma, .ref mb, .ref mz, .int (nI nl), .int (nI nr)])), (mz, .inl (cJ, 512, .inr (.inl F)))] [(cJ, .long)] (fun r (_ : Unit) => r = F (i.toBitVec.toNat % 2 ^ 9)) (fun (_ : Unit) => [(hm, .inr (2, [.ref ma, .ref mb, .ref mz, .int (nI nl), .int (nI nr)])), (mz, .inl (cJ, 512, .inr (.inl F)))]) := by
  intro sz
  refine k_met (Qc := fun A => va_Ql (fun r (_ : Unit) => r = F (i.toBitVec.toNat % 2 ^ 9)) (fun (_ : Unit) t => k_B D A [(hm, .inr (2, [.ref ma, .ref mb, .ref mz, .int (nI nl), .int (nI nr)])), (mz, .inl (cJ, 512, .inr (.inl F)))] [(cJ, .long)] t) A) (by decide) (Nat.le_of_ble_eq_true rfl) ?_
  intro p e s m below meth c A ls C hP hK hD hA hS hl
  obtain ⟨hx, hb, hml, hr, hlocks, hown, hin, hts⟩ := id C
  have hown : s.vm.findClass RX2 = some m.cls := hown
  have hl : lv_has ls 2 [(0, .ref hm), (1, .int i)] := hl
  refine lv_aload_n hx hb dX2_at_0 rfl (lv_at hl 0 rfl) ?_
  refine va_get (D := D) (ci := 2) (v := .ref mz) (C := RX2) (T := TX2) (N := 5) hx hb hts in_X2 hown hK hP 0 rfl rfl 2 (by decide) (hts _ q162) (fun _ h9 => h9) rfl dX2_at_1 ?_
  refine lv_iload_n hx hb dX2_at_4 rfl (lv_at hl 1 rfl) ?_
  refine lv_sipush (v := nI 511) hx hb dX2_at_5 (by decide) ?_
  refine lv_iand hx hb dX2_at_8 ?_
  refine k_ti (nI (i.toBitVec.toNat % 2 ^ 9)) (pk_and i 9 (by decide)) ?_
  refine k_lald hx hb hK hP 1 0 rfl rfl (by omega) (by decide) dX2_at_9 ?_
  exact W.lret (v := F (i.toBitVec.toNat % 2 ^ 9)) hx hb hr (fun t ht hW => ⟨⟨F (i.toBitVec.toNat % 2 ^ 9), (), rfl, rfl, by rw [ht]; exact hP, va_K.moved hW.alike hK, hD⟩, hS.F ht⟩) hS.2.2 dX2_at_10
set_option maxHeartbeats 4000000 in
set_option maxRecDepth 100000 in
theorem lp_clear {p : Program} {l : Launch} {e : Env} {R : Room} {s : State} {m : MethodId} {args : Array Value} {below : List Frame} {meth : Method} {c : Code} {Q : State → Prop} {D : va_G} {cells slots : Nat} {A : Nat → Prop} {hm ma mb mz nl nr : Nat} {cJ : ClassId} {Zf : Nat → Int64} (C : k_C p s m args meth c yX2_clear cX2_clear 2 none) (hK : va_K D vwCl [(cJ, .long)] s)
    (kk : ∀ (Z' : Nat → Int64) (H : Heap) (locs : List Loc) (ls : Array Slot), nt_up 512 (fun _ => lN 0) Zf Z' → va_P D vwCl [(hm, .inr (2, [.ref ma, .ref mb, .ref mz, .int (nI nl), .int (nI nr)])), (mz, .inl (cJ, 512, .inr (.inl Z')))] H → va_D A [(hm, .inr (2, [.ref ma, .ref mb, .ref mz, .int (nI nl), .int (nI nr)])), (mz, .inl (cJ, 512, .inr (.inl Z')))] → va_S A s.heap H locs → W p l e R s m args below meth c H locs cells slots Q (F0 m 22 ls [])) :
    ∀ (N i : Nat) (Z' : Nat → Int64) (H : Heap) (locs : List Loc) (ls : Array Slot), 512 < i + N → i ≤ 512 → nt_up i (fun _ => lN 0) Zf Z' → va_P D vwCl [(hm, .inr (2, [.ref ma, .ref mb, .ref mz, .int (nI nl), .int (nI nr)])), (mz, .inl (cJ, 512, .inr (.inl Z')))] H → va_D A [(hm, .inr (2, [.ref ma, .ref mb, .ref mz, .int (nI nl), .int (nI nr)])), (mz, .inl (cJ, 512, .inr (.inl Z')))] → va_S A s.heap H locs → lv_has ls 2 [(0, .ref hm), (1, .int (nI i))] → W p l e R s m args below meth c H locs cells slots Q (F0 m 2 ls []) := by
  obtain ⟨hx, hb, hml, hr, hlocks, hown, hin, hts⟩ := id C
  have hown : s.vm.findClass RX2 = some m.cls := hown
  intro N
  induction N with
  | zero => intro i Z' H locs ls h1 h2; exact absurd h1 (by omega)
  | succ N ih =>
    intro i Z' H locs ls h1 h2 hU hP hD hS hl
    refine lv_iload_n hx hb dX2_clear_2 rfl (lv_at hl 1 rfl) ?_
    refine lv_sipush (v := nI 512) hx hb dX2_clear_3 (by decide) ?_
    refine k_icmp_ge (tgt := 22) hx hb dX2_clear_6 (by decide) (by omega) (by omega) (fun c1 => ?_) (fun c1 => ?_)
    · have e0 : i = 512 := by omega
      rw [e0] at hU
      exact kk Z' H locs ls hU hP hD hS
    · refine lv_aload_n hx hb dX2_clear_9 rfl (lv_at hl 0 rfl) ?_
      refine va_get (D := D) (ci := 2) (v := .ref mz) (C := RX2) (T := TX2) (N := 5) hx hb hts in_X2 hown hK hP 0 rfl rfl 2 (by decide) (hts _ q162) (fun _ h9 => h9) rfl dX2_clear_10 ?_
      refine lv_iload_n hx hb dX2_clear_13 rfl (lv_at hl 1 rfl) ?_
      refine lv_lconst (v := lN 0) hx hb dX2_clear_14 (by decide) ?_
      refine k_last hx hb hK hP hD hS 1 0 rfl rfl (by omega) (by decide) dX2_clear_15 (fun H locs hP hD hS => ?_)
      have hP : va_P D vwCl [(hm, .inr (2, [.ref ma, .ref mb, .ref mz, .int (nI nl), .int (nI nr)])), (mz, .inl (cJ, 512, .inr (.inl (vp_updL Z' i (lN 0)))))] H := hP
      have hD : va_D A [(hm, .inr (2, [.ref ma, .ref mb, .ref mz, .int (nI nl), .int (nI nr)])), (mz, .inl (cJ, 512, .inr (.inl (vp_updL Z' i (lN 0)))))] := hD
      refine lv_iinc (v := nI (i + 1)) (lv' := [(1, .int (nI (i + 1))), (0, .ref hm)]) hx hb dX2_clear_16 hl (k := 1) rfl (k_inc i) (by decide) rfl (fun ls hl => ?_)
      refine lv_goto (tgt := 2) hx hb dX2_clear_19 (by decide) ?_
      exact ih (i + 1) _ H locs ls (by omega) (by omega) (nt_up_step hU rfl) hP hD hS (lv_sub hl [1, 0] rfl)
set_option maxHeartbeats 4000000 in
set_option maxRecDepth 100000 in
/-- clear() -/
theorem m_clear (l : Launch) (D : va_G) (hm ma mb mz nl nr : Nat) (cJ : ClassId) (Zf : Nat → Int64) : k_Mv l yX2_clear cX2_clear 2 rk0 D [.ref hm] [(hm, .inr (2, [.ref ma, .ref mb, .ref mz, .int (nI nl), .int (nI nr)])), (mz, .inl (cJ, 512, .inr (.inl Zf)))] [(cJ, .long)] (fun u : Nat → Int64 => ∀ k, k < 512 → u k = lN 0) (fun u => [(hm, .inr (2, [.ref ma, .ref mb, .ref mz, .int (nI nl), .int (nI nr)])), (mz, .inl (cJ, 512, .inr (.inl u)))]) (fun _ => [(cJ, .long)]) 0 0 := by
  intro sz
  refine k_met (Qc := fun A => va_Qv (fun u : Nat → Int64 => ∀ k, k < 512 → u k = lN 0) (fun u t => k_B D A [(hm, .inr (2, [.ref ma, .ref mb, .ref mz, .int (nI nl), .int (nI nr)])), (mz, .inl (cJ, 512, .inr (.inl u)))] [(cJ, .long)] t) A) (by decide) (Nat.le_of_ble_eq_true rfl) ?_
  intro p e s m below meth c A ls C hP hK hD hA hS hl
  obtain ⟨hx, hb, hml, hr, hlocks, hown, hin, hts⟩ := id C
  have hown : s.vm.findClass RX2 = some m.cls := hown
  have hl : lv_has ls 2 [(0, .ref hm)] := hl
  refine lv_iconst (v := nI 0) hx hb dX2_clear_0 (by decide) ?_
  refine lv_istore_n (lv' := [(1, .int (nI 0)), (0, .ref hm)]) hx hb dX2_clear_1 rfl hl (by decide) rfl (fun ls hl => ?_)
  refine lp_clear C hK (fun Z' H locs ls hU hP hD hS => ?_) 513 0 Zf s.heap [] ls (by omega) (Nat.zero_le _) (nt_up_0 _ _) hP hD hS (lv_sub hl [1, 0] rfl)
  exact W.vret hx hb hr (fun t ht hW => ⟨⟨Z', rfl, hU.1, by rw [ht]; exact hP, va_K.moved hW.alike hK, hD⟩, hS.F ht⟩) hS.2.2 dX2_clear_22
set_option maxHeartbeats 4000000 in
set_option maxRecDepth 100000 in
theorem lp_mproduct_in {p : Program} {l : Launch} {e : Env} {R : Room} {s : State} {m : MethodId} {args : Array Value} {below : List Frame} {meth : Method} {c : Code} {Q : State → Prop} {D : va_G} {cells slots : Nat} {A : Nat → Prop} {hm ma mb mz nl nr : Nat} {cI cJ : ClassId} {lf rf : Nat → Int32} (C : k_C p s m args meth c yX2_product cX2_product 3 none) (hn1 : nl ≤ 256) (hn2 : nr ≤ 256) (hK : va_K D vwCl [(cI, .int), (cJ, .long)] s) {i : Nat} (hi : i < nl)
    (kk : ∀ (Z' : Nat → Int64) (H : Heap) (locs : List Loc) (ls : Array Slot), (∀ k, k < 512 → Z' k = lI (nt_Z i nr (fun i j => i + nt_di false j) (fun i j => (lf i).toInt * (rf j).toInt) k + nt_B nr (fun j => i + nt_di false j) (fun j => (lf i).toInt * (rf j).toInt) k)) → va_P D vwCl [(hm, .inr (2, [.ref ma, .ref mb, .ref mz, .int (nI nl), .int (nI nr)])), (ma, .inl (cI, 256, .inl lf)), (mb, .inl (cI, 256, .inl rf)), (mz, .inl (cJ, 512, .inr (.inl Z')))] H → va_D A [(hm, .inr (2, [.ref ma, .ref mb, .ref mz, .int (nI nl), .int (nI nr)])), (ma, .inl (cI, 256, .inl lf)), (mb, .inl (cI, 256, .inl rf)), (mz, .inl (cJ, 512, .inr (.inl Z')))] → va_S A s.heap H locs → lv_has ls 3 [(0, .ref hm), (1, .int (nI i))] → W p l e R s m args below meth c H locs cells slots Q (F0 m 62 ls [])) :
    ∀ (N j : Nat) (Z' : Nat → Int64) (H : Heap) (locs : List Loc) (ls : Array Slot), nr < j + N → j ≤ nr → (∀ k, k < 512 → Z' k = lI (nt_Z i nr (fun i j => i + nt_di false j) (fun i j => (lf i).toInt * (rf j).toInt) k + nt_B j (fun j => i + nt_di false j) (fun j => (lf i).toInt * (rf j).toInt) k)) → va_P D vwCl [(hm, .inr (2, [.ref ma, .ref mb, .ref mz, .int (nI nl), .int (nI nr)])), (ma, .inl (cI, 256, .inl lf)), (mb, .inl (cI, 256, .inl rf)), (mz, .inl (cJ, 512, .inr (.inl Z')))] H → va_D A [(hm, .inr (2, [.ref ma, .ref mb, .ref mz, .int (nI nl), .int (nI nr)])), (ma, .inl (cI, 256, .inl lf)), (mb, .inl (cI, 256, .inl rf)), (mz, .inl (cJ, 512, .inr (.inl Z')))] → va_S A s.heap H locs → lv_has ls 3 [(0, .ref hm), (1, .int (nI i)), (2, .int (nI j))] → W p l e R s m args below meth c H locs cells slots Q (F0 m 16 ls []) := by
  obtain ⟨hx, hb, hml, hr, hlocks, hown, hin, hts⟩ := id C
  have hown : s.vm.findClass RX2 = some m.cls := hown
  intro N
  induction N with
  | zero => intro j Z' H locs ls h1 h2; exact absurd h1 (by omega)
  | succ N ih =>
    intro j Z' H locs ls h1 h2 hU hP hD hS hl
    refine lv_iload_n hx hb dX2_product_16 rfl (lv_at hl 2 rfl) ?_
    refine lv_aload_n hx hb dX2_product_17 rfl (lv_at hl 0 rfl) ?_
    refine va_get (D := D) (ci := 2) (v := .int (nI nr)) (C := RX2) (T := TX2) (N := 5) hx hb hts in_X2 hown hK hP 0 rfl rfl 4 (by decide) (hts _ q164) (fun _ h9 => h9) rfl dX2_product_18 ?_
    refine k_icmp_ge (tgt := 62) hx hb dX2_product_21 (by decide) (by omega) (by omega) (fun c1 => ?_) (fun c1 => ?_)
    · have e0 : j = nr := by omega
      rw [e0] at hU
      exact kk Z' H locs ls hU hP hD hS (lv_sub hl [0, 1] rfl)
    · have hx1 : nt_di false j < 256 := nt_di_lt false (by omega)
      have hst := nt_z_step hU
      refine lv_aload_n hx hb dX2_product_24 rfl (lv_at hl 0 rfl) ?_
      refine va_get (D := D) (ci := 2) (v := .ref mz) (C := RX2) (T := TX2) (N := 5) hx hb hts in_X2 hown hK hP 0 rfl rfl 2 (by decide) (hts _ q162) (fun _ h9 => h9) rfl dX2_product_25 ?_
      refine lv_iload_n hx hb dX2_product_28 rfl (lv_at hl 1 rfl) ?_
      refine lv_iload_n hx hb dX2_product_29 rfl (lv_at hl 2 rfl) ?_
      refine k_iadd hx hb dX2_product_30  ?_
      refine k_ti (nI (i + nt_di false j)) rfl ?_
      refine lv_aload_n hx hb dX2_product_31 rfl (lv_at hl 0 rfl) ?_
      refine va_get (D := D) (ci := 2) (v := .ref mz) (C := RX2) (T := TX2) (N := 5) hx hb hts in_X2 hown hK hP 0 rfl rfl 2 (by decide) (hts _ q162) (fun _ h9 => h9) rfl dX2_product_32 ?_
      refine lv_iload_n hx hb dX2_product_35 rfl (lv_at hl 1 rfl) ?_
      refine lv_iload_n hx hb dX2_product_36 rfl (lv_at hl 2 rfl) ?_
      refine k_iadd hx hb dX2_product_37  ?_
      refine k_ti (nI (i + nt_di false j)) rfl ?_
      refine k_lald hx hb hK hP 3 1 rfl rfl (by omega) (by decide) dX2_product_38 ?_
      refine k_tl (lI (nt_Z i nr (fun i j => i + nt_di false j) (fun i j => (lf i).toInt * (rf j).toInt) (i + nt_di false j) + nt_B j (fun j => i + nt_di false j) (fun j => (lf i).toInt * (rf j).toInt) (i + nt_di false j))) (hU _ (by omega)) ?_
      refine lv_aload_n hx hb dX2_product_39 rfl (lv_at hl 0 rfl) ?_
      refine va_get (D := D) (ci := 2) (v := .ref ma) (C := RX2) (T := TX2) (N := 5) hx hb hts in_X2 hown hK hP 0 rfl rfl 0 (by decide) (hts _ q160) (fun _ h9 => h9) rfl dX2_product_40 ?_
      refine lv_iload_n hx hb dX2_product_43 rfl (lv_at hl 1 rfl) ?_
      refine k_iald hx hb hK hP 1 0 rfl rfl (by omega) (by decide) dX2_product_44 ?_
      refine lv_i2l (v := lI (lf i).toInt) hx hb dX2_product_45 (lI_i2l _) ?_
      refine lv_aload_n hx hb dX2_product_46 rfl (lv_at hl 0 rfl) ?_
      refine va_get (D := D) (ci := 2) (v := .ref mb) (C := RX2) (T := TX2) (N := 5) hx hb hts in_X2 hown hK hP 0 rfl rfl 1 (by decide) (hts _ q161) (fun _ h9 => h9) rfl dX2_product_47 ?_
      refine lv_iload_n hx hb dX2_product_50 rfl (lv_at hl 2 rfl) ?_
      refine k_iald hx hb hK hP 2 0 rfl rfl (by omega) (by decide) dX2_product_51 ?_
      refine lv_i2l (v := lI (rf j).toInt) hx hb dX2_product_52 (lI_i2l _) ?_
      refine lv_lmul hx hb dX2_product_53  ?_
      refine k_tl (lI ((lf i).toInt * (rf j).toInt)) (lI_mul _ _) ?_
      refine lv_ladd hx hb dX2_product_54  ?_
      refine k_tl (lI (nt_Z i nr (fun i j => i + nt_di false j) (fun i j => (lf i).toInt * (rf j).toInt) (i + nt_di false j) + nt_B j (fun j => i + nt_di false j) (fun j => (lf i).toInt * (rf j).toInt) (i + nt_di false j) + (lf i).toInt * (rf j).toInt)) (lI_add _ _) ?_
      refine k_last hx hb hK hP hD hS 3 1 rfl rfl (by omega) (by decide) dX2_product_55 (fun H locs hP hD hS => ?_)
      have hP : va_P D vwCl [(hm, .inr (2, [.ref ma, .ref mb, .ref mz, .int (nI nl), .int (nI nr)])), (ma, .inl (cI, 256, .inl lf)), (mb, .inl (cI, 256, .inl rf)), (mz, .inl (cJ, 512, .inr (.inl (vp_updL Z' (i + nt_di false j) (lI (nt_Z i nr (fun i j => i + nt_di false j) (fun i j => (lf i).toInt * (rf j).toInt) (i + nt_di false j) + nt_B j (fun j => i + nt_di false j) (fun j => (lf i).toInt * (rf j).toInt) (i + nt_di false j) + (lf i).toInt * (rf j).toInt))))))] H := hP
      have hD : va_D A [(hm, .inr (2, [.ref ma, .ref mb, .ref mz, .int (nI nl), .int (nI nr)])), (ma, .inl (cI, 256, .inl lf)), (mb, .inl (cI, 256, .inl rf)), (mz, .inl (cJ, 512, .inr (.inl (vp_updL Z' (i + nt_di false j) (lI (nt_Z i nr (fun i j => i + nt_di false j) (fun i j => (lf i).toInt * (rf j).toInt) (i + nt_di false j) + nt_B j (fun j => i + nt_di false j) (fun j => (lf i).toInt * (rf j).toInt) (i + nt_di false j) + (lf i).toInt * (rf j).toInt))))))] := hD
      refine lv_iinc (v := nI (j + 1)) (lv' := [(2, .int (nI (j + 1))), (0, .ref hm), (1, .int (nI i))]) hx hb dX2_product_56 hl (k := 2) rfl (k_inc j) (by decide) rfl (fun ls hl => ?_)
      refine lv_goto (tgt := 16) hx hb dX2_product_59 (by decide) ?_
      exact ih (j + 1) _ H locs ls (by omega) (by omega) hst hP hD hS (lv_sub hl [1, 2, 0] rfl)
set_option maxHeartbeats 4000000 in
set_option maxRecDepth 100000 in
theorem lp_mproduct_out {p : Program} {l : Launch} {e : Env} {R : Room} {s : State} {m : MethodId} {args : Array Value} {below : List Frame} {meth : Method} {c : Code} {Q : State → Prop} {D : va_G} {cells slots : Nat} {A : Nat → Prop} {hm ma mb mz nl nr : Nat} {cI cJ : ClassId} {lf rf : Nat → Int32} (C : k_C p s m args meth c yX2_product cX2_product 3 none) (hn1 : nl ≤ 256) (hn2 : nr ≤ 256) (hK : va_K D vwCl [(cI, .int), (cJ, .long)] s)
    (kk : ∀ (Z' : Nat → Int64) (H : Heap) (locs : List Loc) (ls : Array Slot), (∀ k, k < 512 → Z' k = lI (nt_Z nl nr (fun i j => i + nt_di false j) (fun i j => (lf i).toInt * (rf j).toInt) k)) → va_P D vwCl [(hm, .inr (2, [.ref ma, .ref mb, .ref mz, .int (nI nl), .int (nI nr)])), (ma, .inl (cI, 256, .inl lf)), (mb, .inl (cI, 256, .inl rf)), (mz, .inl (cJ, 512, .inr (.inl Z')))] H → va_D A [(hm, .inr (2, [.ref ma, .ref mb, .ref mz, .int (nI nl), .int (nI nr)])), (ma, .inl (cI, 256, .inl lf)), (mb, .inl (cI, 256, .inl rf)), (mz, .inl (cJ, 512, .inr (.inl Z')))] → va_S A s.heap H locs → W p l e R s m args below meth c H locs cells slots Q (F0 m 68 ls [])) :
    ∀ (N i : Nat) (Z' : Nat → Int64) (H : Heap) (locs : List Loc) (ls : Array Slot), nl < i + N → i ≤ nl → (∀ k, k < 512 → Z' k = lI (nt_Z i nr (fun i j => i + nt_di false j) (fun i j => (lf i).toInt * (rf j).toInt) k)) → va_P D vwCl [(hm, .inr (2, [.ref ma, .ref mb, .ref mz, .int (nI nl), .int (nI nr)])), (ma, .inl (cI, 256, .inl lf)), (mb, .inl (cI, 256, .inl rf)), (mz, .inl (cJ, 512, .inr (.inl Z')))] H → va_D A [(hm, .inr (2, [.ref ma, .ref mb, .ref mz, .int (nI nl), .int (nI nr)])), (ma, .inl (cI, 256, .inl lf)), (mb, .inl (cI, 256, .inl rf)), (mz, .inl (cJ, 512, .inr (.inl Z')))] → va_S A s.heap H locs → lv_has ls 3 [(0, .ref hm), (1, .int (nI i))] → W p l e R s m args below meth c H locs cells slots Q (F0 m 6 ls []) := by
  obtain ⟨hx, hb, hml, hr, hlocks, hown, hin, hts⟩ := id C
  have hown : s.vm.findClass RX2 = some m.cls := hown
  intro N
  induction N with
  | zero => intro i Z' H locs ls h1 h2; exact absurd h1 (by omega)
  | succ N ih =>
    intro i Z' H locs ls h1 h2 hU hP hD hS hl
    refine lv_iload_n hx hb dX2_product_6 rfl (lv_at hl 1 rfl) ?_
    refine lv_aload_n hx hb dX2_product_7 rfl (lv_at hl 0 rfl) ?_
    refine va_get (D := D) (ci := 2) (v := .int (nI nl)) (C := RX2) (T := TX2) (N := 5) hx hb hts in_X2 hown hK hP 0 rfl rfl 3 (by decide) (hts _ q163) (fun _ h9 => h9) rfl dX2_product_8 ?_
    refine k_icmp_ge (tgt := 68) hx hb dX2_product_11 (by decide) (by omega) (by omega) (fun c1 => ?_) (fun c1 => ?_)
    · have e0 : i = nl := by omega
      rw [e0] at hU
      exact kk Z' H locs ls hU hP hD hS
    · refine lv_iconst (v := nI 0) hx hb dX2_product_14 (by decide) ?_
      refine lv_istore_n (lv' := [(2, .int (nI 0)), (0, .ref hm), (1, .int (nI i))]) hx hb dX2_product_15 rfl hl (by decide) rfl (fun ls hl => ?_)
      refine lp_mproduct_in C hn1 hn2 hK c1 (fun Z2 H locs ls hU hP hD hS hl => ?_) (nr + 1) 0 Z' H locs ls (by omega) (Nat.zero_le _) (fun k hk => by rw [nt_B0, Int.add_zero]; exact hU k hk) hP hD hS (lv_sub hl [1, 2, 0] rfl)
      refine lv_iinc (v := nI (i + 1)) (lv' := [(1, .int (nI (i + 1))), (0, .ref hm)]) hx hb dX2_product_62 hl (k := 1) rfl (k_inc i) (by decide) rfl (fun ls hl => ?_)
      refine lv_goto (tgt := 6) hx hb dX2_product_65 (by decide) ?_
      exact ih (i + 1) Z2 H locs ls (by omega) (by omega) (fun k hk => hU k hk) hP hD hS (lv_sub hl [1, 0] rfl)
set_option maxHeartbeats 4000000 in
set_option maxRecDepth 100000 in
/-- product of the model -/
theorem m_mproduct (l : Launch) (D : va_G) (hm ma mb mz nl nr : Nat) (cI cJ : ClassId) (lf rf : Nat → Int32) (Zf : Nat → Int64) (hn1 : nl ≤ 256) (hn2 : nr ≤ 256) : k_Mv l yX2_product cX2_product 3 rkL D [.ref hm] [(hm, .inr (2, [.ref ma, .ref mb, .ref mz, .int (nI nl), .int (nI nr)])), (ma, .inl (cI, 256, .inl lf)), (mb, .inl (cI, 256, .inl rf)), (mz, .inl (cJ, 512, .inr (.inl Zf)))] [(cI, .int), (cJ, .long)] (fun u : Nat → Int64 => ∀ k, k < 512 → u k = lI (nt_Z nl nr (fun i j => i + nt_di false j) (fun i j => (lf i).toInt * (rf j).toInt) k)) (fun u => [(hm, .inr (2, [.ref ma, .ref mb, .ref mz, .int (nI nl), .int (nI nr)])), (ma, .inl (cI, 256, .inl lf)), (mb, .inl (cI, 256, .inl rf)), (mz, .inl (cJ, 512, .inr (.inl u)))]) (fun _ => [(cI, .int), (cJ, .long)]) 0 0 := by
  intro sz
  refine k_met (Qc := fun A => va_Qv (fun u : Nat → Int64 => ∀ k, k < 512 → u k = lI (nt_Z nl nr (fun i j => i + nt_di false j) (fun i j => (lf i).toInt * (rf j).toInt) k)) (fun u t => k_B D A [(hm, .inr (2, [.ref ma, .ref mb, .ref mz, .int (nI nl), .int (nI nr)])), (ma, .inl (cI, 256, .inl lf)), (mb, .inl (cI, 256, .inl rf)), (mz, .inl (cJ, 512, .inr (.inl u)))] [(cI, .int), (cJ, .long)] t) A) (by decide) (Nat.le_of_ble_eq_true rfl) ?_
  intro p e s m below meth c A ls C hP hK hD hA hS hl
  obtain ⟨hx, hb, hml, hr, hlocks, hown, hin, hts⟩ := id C
  have hown : s.vm.findClass RX2 = some m.cls := hown
  have hl : lv_has ls 3 [(0, .ref hm)] := hl
  refine lv_aload_n hx hb dX2_product_0 rfl (lv_at hl 0 rfl) ?_
  refine k_cVv (own := RX2) (wr := [(ma, .inl (cI, 256, .inl lf)), (mb, .inl (cI, 256, .inl rf))]) (wo := fun Z1 => [(hm, .inr (2, [.ref ma, .ref mb, .ref mz, .int (nI nl), .int (nI nr)])), (ma, .inl (cI, 256, .inl lf)), (mb, .inl (cI, 256, .inl rf)), (mz, .inl (cJ, 512, .inr (.inl Z1)))]) C rfl (m_clear l D hm ma mb mz nl nr cJ Zf) (cwV 0 hts (lw_V q192 q194 qs6 q10 q195) rfl rfl rfl (by decide +kernel) ⟨Nat.le_of_ble_eq_true rfl, Nat.le_of_ble_eq_true rfl⟩) hK hP hD hS hA 0 2 rfl rfl rfl [1] rfl [0, 3] [1, 2] rfl (by decide) rfl (by decide) (by decide) [2, 0, 1, 3] (fun _ => rfl) (by decide) rfl hl.1 rfl (Nat.le_of_ble_eq_true rfl) dX2_product_1 ⟨Nat.zero_le _, Nat.zero_le _⟩ (fun Z1 H locs hw1 hP hD hKn hS => ?_)
  have hP : va_P D vwCl [(hm, .inr (2, [.ref ma, .ref mb, .ref mz, .int (nI nl), .int (nI nr)])), (ma, .inl (cI, 256, .inl lf)), (mb, .inl (cI, 256, .inl rf)), (mz, .inl (cJ, 512, .inr (.inl Z1)))] H := hP
  have hD : va_D A [(hm, .inr (2, [.ref ma, .ref mb, .ref mz, .int (nI nl), .int (nI nr)])), (ma, .inl (cI, 256, .inl lf)), (mb, .inl (cI, 256, .inl rf)), (mz, .inl (cJ, 512, .inr (.inl Z1)))] := hD
  refine lv_iconst (v := nI 0) hx hb dX2_product_4 (by decide) ?_
  refine lv_istore_n (lv' := [(1, .int (nI 0)), (0, .ref hm)]) hx hb dX2_product_5 rfl hl (by decide) rfl (fun ls hl => ?_)
  refine lp_mproduct_out C hn1 hn2 hK (fun Z' H locs ls hU hP hD hS => ?_) (nl + 1) 0 Z1 H locs ls (by omega) (Nat.zero_le _) (fun k hk => hw1 k hk) hP hD hS (lv_sub hl [1, 0] rfl)
  exact W.vret hx hb hr (fun t ht hW => ⟨⟨Z', rfl, hU, by rw [ht]; exact hP, va_K.moved hW.alike hK, hD⟩, hS.F ht⟩) hS.2.2 dX2_product_68
set_option maxHeartbeats 4000000 in
set_option maxRecDepth 100000 in
theorem lp_mlikeness_in {p : Program} {l : Launch} {e : Env} {R : Room} {s : State} {m : MethodId} {args : Array Value} {below : List Frame} {meth : Method} {c : Code} {Q : State → Prop} {D : va_G} {cells slots : Nat} {A : Nat → Prop} {hm ma mb mz nl nr : Nat} {cI cJ : ClassId} {lf rf : Nat → Int32} (C : k_C p s m args meth c yX2_likeness cX2_likeness 3 none) (hn1 : nl ≤ 256) (hn2 : nr ≤ 256) (hK : va_K D vwCl [(cI, .int), (cJ, .long)] s) {i : Nat} (hi : i < nl)
    (kk : ∀ (Z' : Nat → Int64) (H : Heap) (locs : List Loc) (ls : Array Slot), (∀ k, k < 512 → Z' k = lI (nt_Z i nr (fun i j => i + nt_di true j) (fun i j => (lf i).toInt * (rf j).toInt) k + nt_B nr (fun j => i + nt_di true j) (fun j => (lf i).toInt * (rf j).toInt) k)) → va_P D vwCl [(hm, .inr (2, [.ref ma, .ref mb, .ref mz, .int (nI nl), .int (nI nr)])), (ma, .inl (cI, 256, .inl lf)), (mb, .inl (cI, 256, .inl rf)), (mz, .inl (cJ, 512, .inr (.inl Z')))] H → va_D A [(hm, .inr (2, [.ref ma, .ref mb, .ref mz, .int (nI nl), .int (nI nr)])), (ma, .inl (cI, 256, .inl lf)), (mb, .inl (cI, 256, .inl rf)), (mz, .inl (cJ, 512, .inr (.inl Z')))] → va_S A s.heap H locs → lv_has ls 3 [(0, .ref hm), (1, .int (nI i))] → W p l e R s m args below meth c H locs cells slots Q (F0 m 70 ls [])) :
    ∀ (N j : Nat) (Z' : Nat → Int64) (H : Heap) (locs : List Loc) (ls : Array Slot), nr < j + N → j ≤ nr → (∀ k, k < 512 → Z' k = lI (nt_Z i nr (fun i j => i + nt_di true j) (fun i j => (lf i).toInt * (rf j).toInt) k + nt_B j (fun j => i + nt_di true j) (fun j => (lf i).toInt * (rf j).toInt) k)) → va_P D vwCl [(hm, .inr (2, [.ref ma, .ref mb, .ref mz, .int (nI nl), .int (nI nr)])), (ma, .inl (cI, 256, .inl lf)), (mb, .inl (cI, 256, .inl rf)), (mz, .inl (cJ, 512, .inr (.inl Z')))] H → va_D A [(hm, .inr (2, [.ref ma, .ref mb, .ref mz, .int (nI nl), .int (nI nr)])), (ma, .inl (cI, 256, .inl lf)), (mb, .inl (cI, 256, .inl rf)), (mz, .inl (cJ, 512, .inr (.inl Z')))] → va_S A s.heap H locs → lv_has ls 3 [(0, .ref hm), (1, .int (nI i)), (2, .int (nI j))] → W p l e R s m args below meth c H locs cells slots Q (F0 m 16 ls []) := by
  obtain ⟨hx, hb, hml, hr, hlocks, hown, hin, hts⟩ := id C
  have hown : s.vm.findClass RX2 = some m.cls := hown
  intro N
  induction N with
  | zero => intro j Z' H locs ls h1 h2; exact absurd h1 (by omega)
  | succ N ih =>
    intro j Z' H locs ls h1 h2 hU hP hD hS hl
    refine lv_iload_n hx hb dX2_likeness_16 rfl (lv_at hl 2 rfl) ?_
    refine lv_aload_n hx hb dX2_likeness_17 rfl (lv_at hl 0 rfl) ?_
    refine va_get (D := D) (ci := 2) (v := .int (nI nr)) (C := RX2) (T := TX2) (N := 5) hx hb hts in_X2 hown hK hP 0 rfl rfl 4 (by decide) (hts _ q164) (fun _ h9 => h9) rfl dX2_likeness_18 ?_
    refine k_icmp_ge (tgt := 70) hx hb dX2_likeness_21 (by decide) (by omega) (by omega) (fun c1 => ?_) (fun c1 => ?_)
    · have e0 : j = nr := by omega
      rw [e0] at hU
      exact kk Z' H locs ls hU hP hD hS (lv_sub hl [0, 1] rfl)
    · have hx1 : nt_di true j < 256 := nt_di_lt true (by omega)
      have hst := nt_z_step hU
      refine lv_aload_n hx hb dX2_likeness_24 rfl (lv_at hl 0 rfl) ?_
      refine va_get (D := D) (ci := 2) (v := .ref mz) (C := RX2) (T := TX2) (N := 5) hx hb hts in_X2 hown hK hP 0 rfl rfl 2 (by decide) (hts _ q162) (fun _ h9 => h9) rfl dX2_likeness_25 ?_
      refine lv_iload_n hx hb dX2_likeness_28 rfl (lv_at hl 1 rfl) ?_
      refine lv_iload_n hx hb dX2_likeness_29 rfl (lv_at hl 2 rfl) ?_
      refine lv_isub hx hb dX2_likeness_30  ?_
      refine lv_sipush (v := nI 255) hx hb dX2_likeness_31 (by decide) ?_
      refine lv_iadd hx hb dX2_likeness_34  ?_
      refine k_ti (nI (i + nt_di true j)) (k_like (by omega)) ?_
      refine lv_aload_n hx hb dX2_likeness_35 rfl (lv_at hl 0 rfl) ?_
      refine va_get (D := D) (ci := 2) (v := .ref mz) (C := RX2) (T := TX2) (N := 5) hx hb hts in_X2 hown hK hP 0 rfl rfl 2 (by decide) (hts _ q162) (fun _ h9 => h9) rfl dX2_likeness_36 ?_
      refine lv_iload_n hx hb dX2_likeness_39 rfl (lv_at hl 1 rfl) ?_
      refine lv_iload_n hx hb dX2_likeness_40 rfl (lv_at hl 2 rfl) ?_
      refine lv_isub hx hb dX2_likeness_41  ?_
      refine lv_sipush (v := nI 255) hx hb dX2_likeness_42 (by decide) ?_
      refine lv_iadd hx hb dX2_likeness_45  ?_
      refine k_ti (nI (i + nt_di true j)) (k_like (by omega)) ?_
      refine k_lald hx hb hK hP 3 1 rfl rfl (by omega) (by decide) dX2_likeness_46 ?_
      refine k_tl (lI (nt_Z i nr (fun i j => i + nt_di true j) (fun i j => (lf i).toInt * (rf j).toInt) (i + nt_di true j) + nt_B j (fun j => i + nt_di true j) (fun j => (lf i).toInt * (rf j).toInt) (i + nt_di true j))) (hU _ (by omega)) ?_
      refine lv_aload_n hx hb dX2_likeness_47 rfl (lv_at hl 0 rfl) ?_
      refine va_get (D := D) (ci := 2) (v := .ref ma) (C := RX2) (T := TX2) (N := 5) hx hb hts in_X2 hown hK hP 0 rfl rfl 0 (by decide) (hts _ q160) (fun _ h9 => h9) rfl dX2_likeness_48 ?_
      refine lv_iload_n hx hb dX2_likeness_51 rfl (lv_at hl 1 rfl) ?_
      refine k_iald hx hb hK hP 1 0 rfl rfl (by omega) (by decide) dX2_likeness_52 ?_
      refine lv_i2l (v := lI (lf i).toInt) hx hb dX2_likeness_53 (lI_i2l _) ?_
      refine lv_aload_n hx hb dX2_likeness_54 rfl (lv_at hl 0 rfl) ?_
      refine va_get (D := D) (ci := 2) (v := .ref mb) (C := RX2) (T := TX2) (N := 5) hx hb hts in_X2 hown hK hP 0 rfl rfl 1 (by decide) (hts _ q161) (fun _ h9 => h9) rfl dX2_likeness_55 ?_
      refine lv_iload_n hx hb dX2_likeness_58 rfl (lv_at hl 2 rfl) ?_
      refine k_iald hx hb hK hP 2 0 rfl rfl (by omega) (by decide) dX2_likeness_59 ?_
      refine lv_i2l (v := lI (rf j).toInt) hx hb dX2_likeness_60 (lI_i2l _) ?_
      refine lv_lmul hx hb dX2_likeness_61  ?_
      refine k_tl (lI ((lf i).toInt * (rf j).toInt)) (lI_mul _ _) ?_
      refine lv_ladd hx hb dX2_likeness_62  ?_
      refine k_tl (lI (nt_Z i nr (fun i j => i + nt_di true j) (fun i j => (lf i).toInt * (rf j).toInt) (i + nt_di true j) + nt_B j (fun j => i + nt_di true j) (fun j => (lf i).toInt * (rf j).toInt) (i + nt_di true j) + (lf i).toInt * (rf j).toInt)) (lI_add _ _) ?_
      refine k_last hx hb hK hP hD hS 3 1 rfl rfl (by omega) (by decide) dX2_likeness_63 (fun H locs hP hD hS => ?_)
      have hP : va_P D vwCl [(hm, .inr (2, [.ref ma, .ref mb, .ref mz, .int (nI nl), .int (nI nr)])), (ma, .inl (cI, 256, .inl lf)), (mb, .inl (cI, 256, .inl rf)), (mz, .inl (cJ, 512, .inr (.inl (vp_updL Z' (i + nt_di true j) (lI (nt_Z i nr (fun i j => i + nt_di true j) (fun i j => (lf i).toInt * (rf j).toInt) (i + nt_di true j) + nt_B j (fun j => i + nt_di true j) (fun j => (lf i).toInt * (rf j).toInt) (i + nt_di true j) + (lf i).toInt * (rf j).toInt))))))] H := hP
      have hD : va_D A [(hm, .inr (2, [.ref ma, .ref mb, .ref mz, .int (nI nl), .int (nI nr)])), (ma, .inl (cI, 256, .inl lf)), (mb, .inl (cI, 256, .inl rf)), (mz, .inl (cJ, 512, .inr (.inl (vp_updL Z' (i + nt_di true j) (lI (nt_Z i nr (fun i j => i + nt_di true j) (fun i j => (lf i).toInt * (rf j).toInt) (i + nt_di true j) + nt_B j (fun j => i + nt_di true j) (fun j => (lf i).toInt * (rf j).toInt) (i + nt_di true j) + (lf i).toInt * (rf j).toInt))))))] := hD
      refine lv_iinc (v := nI (j + 1)) (lv' := [(2, .int (nI (j + 1))), (0, .ref hm), (1, .int (nI i))]) hx hb dX2_likeness_64 hl (k := 2) rfl (k_inc j) (by decide) rfl (fun ls hl => ?_)
      refine lv_goto (tgt := 16) hx hb dX2_likeness_67 (by decide) ?_
      exact ih (j + 1) _ H locs ls (by omega) (by omega) hst hP hD hS (lv_sub hl [1, 2, 0] rfl)
set_option maxHeartbeats 4000000 in
set_option maxRecDepth 100000 in
theorem lp_mlikeness_out {p : Program} {l : Launch} {e : Env} {R : Room} {s : State} {m : MethodId} {args : Array Value} {below : List Frame} {meth : Method} {c : Code} {Q : State → Prop} {D : va_G} {cells slots : Nat} {A : Nat → Prop} {hm ma mb mz nl nr : Nat} {cI cJ : ClassId} {lf rf : Nat → Int32} (C : k_C p s m args meth c yX2_likeness cX2_likeness 3 none) (hn1 : nl ≤ 256) (hn2 : nr ≤ 256) (hK : va_K D vwCl [(cI, .int), (cJ, .long)] s)
    (kk : ∀ (Z' : Nat → Int64) (H : Heap) (locs : List Loc) (ls : Array Slot), (∀ k, k < 512 → Z' k = lI (nt_Z nl nr (fun i j => i + nt_di true j) (fun i j => (lf i).toInt * (rf j).toInt) k)) → va_P D vwCl [(hm, .inr (2, [.ref ma, .ref mb, .ref mz, .int (nI nl), .int (nI nr)])), (ma, .inl (cI, 256, .inl lf)), (mb, .inl (cI, 256, .inl rf)), (mz, .inl (cJ, 512, .inr (.inl Z')))] H → va_D A [(hm, .inr (2, [.ref ma, .ref mb, .ref mz, .int (nI nl), .int (nI nr)])), (ma, .inl (cI, 256, .inl lf)), (mb, .inl (cI, 256, .inl rf)), (mz, .inl (cJ, 512, .inr (.inl Z')))] → va_S A s.heap H locs → W p l e R s m args below meth c H locs cells slots Q (F0 m 76 ls [])) :
    ∀ (N i : Nat) (Z' : Nat → Int64) (H : Heap) (locs : List Loc) (ls : Array Slot), nl < i + N → i ≤ nl → (∀ k, k < 512 → Z' k = lI (nt_Z i nr (fun i j => i + nt_di true j) (fun i j => (lf i).toInt * (rf j).toInt) k)) → va_P D vwCl [(hm, .inr (2, [.ref ma, .ref mb, .ref mz, .int (nI nl), .int (nI nr)])), (ma, .inl (cI, 256, .inl lf)), (mb, .inl (cI, 256, .inl rf)), (mz, .inl (cJ, 512, .inr (.inl Z')))] H → va_D A [(hm, .inr (2, [.ref ma, .ref mb, .ref mz, .int (nI nl), .int (nI nr)])), (ma, .inl (cI, 256, .inl lf)), (mb, .inl (cI, 256, .inl rf)), (mz, .inl (cJ, 512, .inr (.inl Z')))] → va_S A s.heap H locs → lv_has ls 3 [(0, .ref hm), (1, .int (nI i))] → W p l e R s m args below meth c H locs cells slots Q (F0 m 6 ls []) := by
  obtain ⟨hx, hb, hml, hr, hlocks, hown, hin, hts⟩ := id C
  have hown : s.vm.findClass RX2 = some m.cls := hown
  intro N
  induction N with
  | zero => intro i Z' H locs ls h1 h2; exact absurd h1 (by omega)
  | succ N ih =>
    intro i Z' H locs ls h1 h2 hU hP hD hS hl
    refine lv_iload_n hx hb dX2_likeness_6 rfl (lv_at hl 1 rfl) ?_
    refine lv_aload_n hx hb dX2_likeness_7 rfl (lv_at hl 0 rfl) ?_
    refine va_get (D := D) (ci := 2) (v := .int (nI nl)) (C := RX2) (T := TX2) (N := 5) hx hb hts in_X2 hown hK hP 0 rfl rfl 3 (by decide) (hts _ q163) (fun _ h9 => h9) rfl dX2_likeness_8 ?_
    refine k_icmp_ge (tgt := 76) hx hb dX2_likeness_11 (by decide) (by omega) (by omega) (fun c1 => ?_) (fun c1 => ?_)
    · have e0 : i = nl := by omega
      rw [e0] at hU
      exact kk Z' H locs ls hU hP hD hS
    · refine lv_iconst (v := nI 0) hx hb dX2_likeness_14 (by decide) ?_
      refine lv_istore_n (lv' := [(2, .int (nI 0)), (0, .ref hm), (1, .int (nI i))]) hx hb dX2_likeness_15 rfl hl (by decide) rfl (fun ls hl => ?_)
      refine lp_mlikeness_in C hn1 hn2 hK c1 (fun Z2 H locs ls hU hP hD hS hl => ?_) (nr + 1) 0 Z' H locs ls (by omega) (Nat.zero_le _) (fun k hk => by rw [nt_B0, Int.add_zero]; exact hU k hk) hP hD hS (lv_sub hl [1, 2, 0] rfl)
      refine lv_iinc (v := nI (i + 1)) (lv' := [(1, .int (nI (i + 1))), (0, .ref hm)]) hx hb dX2_likeness_70 hl (k := 1) rfl (k_inc i) (by decide) rfl (fun ls hl => ?_)
      refine lv_goto (tgt := 6) hx hb dX2_likeness_73 (by decide) ?_
      exact ih (i + 1) Z2 H locs ls (by omega) (by omega) (fun k hk => hU k hk) hP hD hS (lv_sub hl [1, 0] rfl)
set_option maxHeartbeats 4000000 in
set_option maxRecDepth 100000 in
/-- likeness of the model -/
theorem m_mlikeness (l : Launch) (D : va_G) (hm ma mb mz nl nr : Nat) (cI cJ : ClassId) (lf rf : Nat → Int32) (Zf : Nat → Int64) (hn1 : nl ≤ 256) (hn2 : nr ≤ 256) : k_Mv l yX2_likeness cX2_likeness 3 rkL D [.ref hm] [(hm, .inr (2, [.ref ma, .ref mb, .ref mz, .int (nI nl), .int (nI nr)])), (ma, .inl (cI, 256, .inl lf)), (mb, .inl (cI, 256, .inl rf)), (mz, .inl (cJ, 512, .inr (.inl Zf)))] [(cI, .int), (cJ, .long)] (fun u : Nat → Int64 => ∀ k, k < 512 → u k = lI (nt_Z nl nr (fun i j => i + nt_di true j) (fun i j => (lf i).toInt * (rf j).toInt) k)) (fun u => [(hm, .inr (2, [.ref ma, .ref mb, .ref mz, .int (nI nl), .int (nI nr)])), (ma, .inl (cI, 256, .inl lf)), (mb, .inl (cI, 256, .inl rf)), (mz, .inl (cJ, 512, .inr (.inl u)))]) (fun _ => [(cI, .int), (cJ, .long)]) 0 0 := by
  intro sz
  refine k_met (Qc := fun A => va_Qv (fun u : Nat → Int64 => ∀ k, k < 512 → u k = lI (nt_Z nl nr (fun i j => i + nt_di true j) (fun i j => (lf i).toInt * (rf j).toInt) k)) (fun u t => k_B D A [(hm, .inr (2, [.ref ma, .ref mb, .ref mz, .int (nI nl), .int (nI nr)])), (ma, .inl (cI, 256, .inl lf)), (mb, .inl (cI, 256, .inl rf)), (mz, .inl (cJ, 512, .inr (.inl u)))] [(cI, .int), (cJ, .long)] t) A) (by decide) (Nat.le_of_ble_eq_true rfl) ?_
  intro p e s m below meth c A ls C hP hK hD hA hS hl
  obtain ⟨hx, hb, hml, hr, hlocks, hown, hin, hts⟩ := id C
  have hown : s.vm.findClass RX2 = some m.cls := hown
  have hl : lv_has ls 3 [(0, .ref hm)] := hl
  refine lv_aload_n hx hb dX2_likeness_0 rfl (lv_at hl 0 rfl) ?_
  refine k_cVv (own := RX2) (wr := [(ma, .inl (cI, 256, .inl lf)), (mb, .inl (cI, 256, .inl rf))]) (wo := fun Z1 => [(hm, .inr (2, [.ref ma, .ref mb, .ref mz, .int (nI nl), .int (nI nr)])), (ma, .inl (cI, 256, .inl lf)), (mb, .inl (cI, 256, .inl rf)), (mz, .inl (cJ, 512, .inr (.inl Z1)))]) C rfl (m_clear l D hm ma mb mz nl nr cJ Zf) (cwV 0 hts (lw_V q192 q194 qs6 q10 q195) rfl rfl rfl (by decide +kernel) ⟨Nat.le_of_ble_eq_true rfl, Nat.le_of_ble_eq_true rfl⟩) hK hP hD hS hA 0 2 rfl rfl rfl [1] rfl [0, 3] [1, 2] rfl (by decide) rfl (by decide) (by decide) [2, 0, 1, 3] (fun _ => rfl) (by decide) rfl hl.1 rfl (Nat.le_of_ble_eq_true rfl) dX2_likeness_1 ⟨Nat.zero_le _, Nat.zero_le _⟩ (fun Z1 H locs hw1 hP hD hKn hS => ?_)
  have hP : va_P D vwCl [(hm, .inr (2, [.ref ma, .ref mb, .ref mz, .int (nI nl), .int (nI nr)])), (ma, .inl (cI, 256, .inl lf)), (mb, .inl (cI, 256, .inl rf)), (mz, .inl (cJ, 512, .inr (.inl Z1)))] H := hP
  have hD : va_D A [(hm, .inr (2, [.ref ma, .ref mb, .ref mz, .int (nI nl), .int (nI nr)])), (ma, .inl (cI, 256, .inl lf)), (mb, .inl (cI, 256, .inl rf)), (mz, .inl (cJ, 512, .inr (.inl Z1)))] := hD
  refine lv_iconst (v := nI 0) hx hb dX2_likeness_4 (by decide) ?_
  refine lv_istore_n (lv' := [(1, .int (nI 0)), (0, .ref hm)]) hx hb dX2_likeness_5 rfl hl (by decide) rfl (fun ls hl => ?_)
  refine lp_mlikeness_out C hn1 hn2 hK (fun Z' H locs ls hU hP hD hS => ?_) (nl + 1) 0 Z1 H locs ls (by omega) (Nat.zero_le _) (fun k hk => hw1 k hk) hP hD hS (lv_sub hl [1, 0] rfl)
  exact W.vret hx hb hr (fun t ht hW => ⟨⟨Z', rfl, hU, by rw [ht]; exact hP, va_K.moved hW.alike hK, hD⟩, hS.F ht⟩) hS.2.2 dX2_likeness_76
set_option maxHeartbeats 4000000 in
set_option maxRecDepth 100000 in
theorem lp_mcircle_in {p : Program} {l : Launch} {e : Env} {R : Room} {s : State} {m : MethodId} {args : Array Value} {below : List Frame} {meth : Method} {c : Code} {Q : State → Prop} {D : va_G} {cells slots : Nat} {A : Nat → Prop} {hm ma mb mz nl nr : Nat} {cI cJ : ClassId} {lf rf : Nat → Int32} {b : Nat} (hb9 : b ≤ 9) (C : k_C p s m args meth c yX2_circle cX2_circle 5 none) (hn1 : nl ≤ 256) (hn2 : nr ≤ 256) (hK : va_K D vwCl [(cI, .int), (cJ, .long)] s) {i : Nat} (hi : i < nl)
    (kk : ∀ (Z' : Nat → Int64) (H : Heap) (locs : List Loc) (ls : Array Slot), (∀ k, k < 512 → Z' k = lI (nt_Z i nr (fun i j => (i + j) % 2 ^ b) (fun i j => nt_sg false (2 ^ b) (i + j) * (lf i).toInt * (rf j).toInt) k + nt_B nr (fun j => (i + j) % 2 ^ b) (fun j => nt_sg false (2 ^ b) (i + j) * (lf i).toInt * (rf j).toInt) k)) → va_P D vwCl [(hm, .inr (2, [.ref ma, .ref mb, .ref mz, .int (nI nl), .int (nI nr)])), (ma, .inl (cI, 256, .inl lf)), (mb, .inl (cI, 256, .inl rf)), (mz, .inl (cJ, 512, .inr (.inl Z')))] H → va_D A [(hm, .inr (2, [.ref ma, .ref mb, .ref mz, .int (nI nl), .int (nI nr)])), (ma, .inl (cI, 256, .inl lf)), (mb, .inl (cI, 256, .inl rf)), (mz, .inl (cJ, 512, .inr (.inl Z')))] → va_S A s.heap H locs → lv_has ls 5 [(0, .ref hm), (2, .int (nI (2 ^ b))), (3, .int (nI i))] → W p l e R s m args below meth c H locs cells slots Q (F0 m 78 ls [])) :
    ∀ (N j : Nat) (Z' : Nat → Int64) (H : Heap) (locs : List Loc) (ls : Array Slot), nr < j + N → j ≤ nr → (∀ k, k < 512 → Z' k = lI (nt_Z i nr (fun i j => (i + j) % 2 ^ b) (fun i j => nt_sg false (2 ^ b) (i + j) * (lf i).toInt * (rf j).toInt) k + nt_B j (fun j => (i + j) % 2 ^ b) (fun j => nt_sg false (2 ^ b) (i + j) * (lf i).toInt * (rf j).toInt) k)) → va_P D vwCl [(hm, .inr (2, [.ref ma, .ref mb, .ref mz, .int (nI nl), .int (nI nr)])), (ma, .inl (cI, 256, .inl lf)), (mb, .inl (cI, 256, .inl rf)), (mz, .inl (cJ, 512, .inr (.inl Z')))] H → va_D A [(hm, .inr (2, [.ref ma, .ref mb, .ref mz, .int (nI nl), .int (nI nr)])), (ma, .inl (cI, 256, .inl lf)), (mb, .inl (cI, 256, .inl rf)), (mz, .inl (cJ, 512, .inr (.inl Z')))] → va_S A s.heap H locs → lv_has ls 5 [(0, .ref hm), (2, .int (nI (2 ^ b))), (3, .int (nI i)), (4, .int (nI j))] → W p l e R s m args below meth c H locs cells slots Q (F0 m 24 ls []) := by
  obtain ⟨hx, hb, hml, hr, hlocks, hown, hin, hts⟩ := id C
  have hown : s.vm.findClass RX2 = some m.cls := hown
  have hb2 := nt_2b hb9
  have hp2 : 0 < 2 ^ b := Nat.two_pow_pos b
  intro N
  induction N with
  | zero => intro j Z' H locs ls h1 h2; exact absurd h1 (by omega)
  | succ N ih =>
    intro j Z' H locs ls h1 h2 hU hP hD hS hl
    refine lv_iload hx hb dX2_circle_24 (lv_at hl 3 rfl) ?_
    refine lv_aload_n hx hb dX2_circle_26 rfl (lv_at hl 0 rfl) ?_
    refine va_get (D := D) (ci := 2) (v := .int (nI nr)) (C := RX2) (T := TX2) (N := 5) hx hb hts in_X2 hown hK hP 0 rfl rfl 4 (by decide) (hts _ q164) (fun _ h9 => h9) rfl dX2_circle_27 ?_
    refine k_icmp_ge (tgt := 78) hx hb dX2_circle_30 (by decide) (by omega) (by omega) (fun c1 => ?_) (fun c1 => ?_)
    · have e0 : j = nr := by omega
      rw [e0] at hU
      exact kk Z' H locs ls hU hP hD hS (lv_sub hl [0, 1, 2] rfl)
    · have hx1 : (i + j) % 2 ^ b < 2 ^ b := Nat.mod_lt _ hp2
      have hx2 : (i + j) / 2 ^ b ≤ i + j := Nat.div_le_self _ _
      have hst := nt_z_step hU
      refine lv_aload_n hx hb dX2_circle_33 rfl (lv_at hl 0 rfl) ?_
      refine va_get (D := D) (ci := 2) (v := .ref mz) (C := RX2) (T := TX2) (N := 5) hx hb hts in_X2 hown hK hP 0 rfl rfl 2 (by decide) (hts _ q162) (fun _ h9 => h9) rfl dX2_circle_34 ?_
      refine lv_iload_n hx hb dX2_circle_37 rfl (lv_at hl 2 rfl) ?_
      refine lv_iload hx hb dX2_circle_38 (lv_at hl 3 rfl) ?_
      refine k_iadd hx hb dX2_circle_40  ?_
      refine lv_iload_n hx hb dX2_circle_41 rfl (lv_at hl 1 rfl) ?_
      refine k_irem hx hb dX2_circle_42 (by omega) (by omega) (by omega) ?_
      refine lv_aload_n hx hb dX2_circle_43 rfl (lv_at hl 0 rfl) ?_
      refine va_get (D := D) (ci := 2) (v := .ref mz) (C := RX2) (T := TX2) (N := 5) hx hb hts in_X2 hown hK hP 0 rfl rfl 2 (by decide) (hts _ q162) (fun _ h9 => h9) rfl dX2_circle_44 ?_
      refine lv_iload_n hx hb dX2_circle_47 rfl (lv_at hl 2 rfl) ?_
      refine lv_iload hx hb dX2_circle_48 (lv_at hl 3 rfl) ?_
      refine k_iadd hx hb dX2_circle_50  ?_
      refine lv_iload_n hx hb dX2_circle_51 rfl (lv_at hl 1 rfl) ?_
      refine k_irem hx hb dX2_circle_52 (by omega) (by omega) (by omega) ?_
      refine k_lald hx hb hK hP 3 1 rfl rfl (by omega) (by decide) dX2_circle_53 ?_
      refine k_tl (lI (nt_Z i nr (fun i j => (i + j) % 2 ^ b) (fun i j => nt_sg false (2 ^ b) (i + j) * (lf i).toInt * (rf j).toInt) ((i + j) % 2 ^ b) + nt_B j (fun j => (i + j) % 2 ^ b) (fun j => nt_sg false (2 ^ b) (i + j) * (lf i).toInt * (rf j).toInt) ((i + j) % 2 ^ b))) (hU _ (by omega)) ?_
      refine lv_aload_n hx hb dX2_circle_54 rfl (lv_at hl 0 rfl) ?_
      refine va_get (D := D) (ci := 2) (v := .ref ma) (C := RX2) (T := TX2) (N := 5) hx hb hts in_X2 hown hK hP 0 rfl rfl 0 (by decide) (hts _ q160) (fun _ h9 => h9) rfl dX2_circle_55 ?_
      refine lv_iload_n hx hb dX2_circle_58 rfl (lv_at hl 2 rfl) ?_
      refine k_iald hx hb hK hP 1 0 rfl rfl (by omega) (by decide) dX2_circle_59 ?_
      refine lv_i2l (v := lI (lf i).toInt) hx hb dX2_circle_60 (lI_i2l _) ?_
      refine lv_aload_n hx hb dX2_circle_61 rfl (lv_at hl 0 rfl) ?_
      refine va_get (D := D) (ci := 2) (v := .ref mb) (C := RX2) (T := TX2) (N := 5) hx hb hts in_X2 hown hK hP 0 rfl rfl 1 (by decide) (hts _ q161) (fun _ h9 => h9) rfl dX2_circle_62 ?_
      refine lv_iload hx hb dX2_circle_65 (lv_at hl 3 rfl) ?_
      refine k_iald hx hb hK hP 2 0 rfl rfl (by omega) (by decide) dX2_circle_67 ?_
      refine lv_i2l (v := lI (rf j).toInt) hx hb dX2_circle_68 (lI_i2l _) ?_
      refine lv_lmul hx hb dX2_circle_69  ?_
      refine k_tl (lI (nt_sg false (2 ^ b) (i + j) * (lf i).toInt * (rf j).toInt)) (by rw [lI_mul, nt_sg_1 (Or.inl rfl), Int.one_mul]) ?_
      refine lv_ladd hx hb dX2_circle_70  ?_
      refine k_tl (lI (nt_Z i nr (fun i j => (i + j) % 2 ^ b) (fun i j => nt_sg false (2 ^ b) (i + j) * (lf i).toInt * (rf j).toInt) ((i + j) % 2 ^ b) + nt_B j (fun j => (i + j) % 2 ^ b) (fun j => nt_sg false (2 ^ b) (i + j) * (lf i).toInt * (rf j).toInt) ((i + j) % 2 ^ b) + nt_sg false (2 ^ b) (i + j) * (lf i).toInt * (rf j).toInt)) (lI_add _ _) ?_
      refine k_last hx hb hK hP hD hS 3 1 rfl rfl (by omega) (by decide) dX2_circle_71 (fun H locs hP hD hS => ?_)
      have hP : va_P D vwCl [(hm, .inr (2, [.ref ma, .ref mb, .ref mz, .int (nI nl), .int (nI nr)])), (ma, .inl (cI, 256, .inl lf)), (mb, .inl (cI, 256, .inl rf)), (mz, .inl (cJ, 512, .inr (.inl (vp_updL Z' ((i + j) % (2 ^ b)) (lI (nt_Z i nr (fun i j => (i + j) % 2 ^ b) (fun i j => nt_sg false (2 ^ b) (i + j) * (lf i).toInt * (rf j).toInt) ((i + j) % 2 ^ b) + nt_B j (fun j => (i + j) % 2 ^ b) (fun j => nt_sg false (2 ^ b) (i + j) * (lf i).toInt * (rf j).toInt) ((i + j) % 2 ^ b) + nt_sg false (2 ^ b) (i + j) * (lf i).toInt * (rf j).toInt))))))] H := hP
      have hD : va_D A [(hm, .inr (2, [.ref ma, .ref mb, .ref mz, .int (nI nl), .int (nI nr)])), (ma, .inl (cI, 256, .inl lf)), (mb, .inl (cI, 256, .inl rf)), (mz, .inl (cJ, 512, .inr (.inl (vp_updL Z' ((i + j) % (2 ^ b)) (lI (nt_Z i nr (fun i j => (i + j) % 2 ^ b) (fun i j => nt_sg false (2 ^ b) (i + j) * (lf i).toInt * (rf j).toInt) ((i + j) % 2 ^ b) + nt_B j (fun j => (i + j) % 2 ^ b) (fun j => nt_sg false (2 ^ b) (i + j) * (lf i).toInt * (rf j).toInt) ((i + j) % 2 ^ b) + nt_sg false (2 ^ b) (i + j) * (lf i).toInt * (rf j).toInt))))))] := hD
      refine lv_iinc (v := nI (j + 1)) (lv' := [(4, .int (nI (j + 1))), (0, .ref hm), (2, .int (nI (2 ^ b))), (3, .int (nI i))]) hx hb dX2_circle_72 hl (k := 3) rfl (k_inc j) (by decide) rfl (fun ls hl => ?_)
      refine lv_goto (tgt := 24) hx hb dX2_circle_75 (by decide) ?_
      exact ih (j + 1) _ H locs ls (by omega) (by omega) hst hP hD hS (lv_sub hl [1, 2, 3, 0] rfl)
set_option maxHeartbeats 4000000 in
set_option maxRecDepth 100000 in
theorem lp_mcircle_out {p : Program} {l : Launch} {e : Env} {R : Room} {s : State} {m : MethodId} {args : Array Value} {below : List Frame} {meth : Method} {c : Code} {Q : State → Prop} {D : va_G} {cells slots : Nat} {A : Nat → Prop} {hm ma mb mz nl nr : Nat} {cI cJ : ClassId} {lf rf : Nat → Int32} {b : Nat} (hb9 : b ≤ 9) (C : k_C p s m args meth c yX2_circle cX2_circle 5 none) (hn1 : nl ≤ 256) (hn2 : nr ≤ 256) (hK : va_K D vwCl [(cI, .int), (cJ, .long)] s)
    (kk : ∀ (Z' : Nat → Int64) (H : Heap) (locs : List Loc) (ls : Array Slot), (∀ k, k < 512 → Z' k = lI (nt_Z nl nr (fun i j => (i + j) % 2 ^ b) (fun i j => nt_sg false (2 ^ b) (i + j) * (lf i).toInt * (rf j).toInt) k)) → va_P D vwCl [(hm, .inr (2, [.ref ma, .ref mb, .ref mz, .int (nI nl), .int (nI nr)])), (ma, .inl (cI, 256, .inl lf)), (mb, .inl (cI, 256, .inl rf)), (mz, .inl (cJ, 512, .inr (.inl Z')))] H → va_D A [(hm, .inr (2, [.ref ma, .ref mb, .ref mz, .int (nI nl), .int (nI nr)])), (ma, .inl (cI, 256, .inl lf)), (mb, .inl (cI, 256, .inl rf)), (mz, .inl (cJ, 512, .inr (.inl Z')))] → va_S A s.heap H locs → W p l e R s m args below meth c H locs cells slots Q (F0 m 84 ls [])) :
    ∀ (N i : Nat) (Z' : Nat → Int64) (H : Heap) (locs : List Loc) (ls : Array Slot), nl < i + N → i ≤ nl → (∀ k, k < 512 → Z' k = lI (nt_Z i nr (fun i j => (i + j) % 2 ^ b) (fun i j => nt_sg false (2 ^ b) (i + j) * (lf i).toInt * (rf j).toInt) k)) → va_P D vwCl [(hm, .inr (2, [.ref ma, .ref mb, .ref mz, .int (nI nl), .int (nI nr)])), (ma, .inl (cI, 256, .inl lf)), (mb, .inl (cI, 256, .inl rf)), (mz, .inl (cJ, 512, .inr (.inl Z')))] H → va_D A [(hm, .inr (2, [.ref ma, .ref mb, .ref mz, .int (nI nl), .int (nI nr)])), (ma, .inl (cI, 256, .inl lf)), (mb, .inl (cI, 256, .inl rf)), (mz, .inl (cJ, 512, .inr (.inl Z')))] → va_S A s.heap H locs → lv_has ls 5 [(0, .ref hm), (2, .int (nI (2 ^ b))), (3, .int (nI i))] → W p l e R s m args below meth c H locs cells slots Q (F0 m 13 ls []) := by
  obtain ⟨hx, hb, hml, hr, hlocks, hown, hin, hts⟩ := id C
  have hown : s.vm.findClass RX2 = some m.cls := hown
  intro N
  induction N with
  | zero => intro i Z' H locs ls h1 h2; exact absurd h1 (by omega)
  | succ N ih =>
    intro i Z' H locs ls h1 h2 hU hP hD hS hl
    refine lv_iload_n hx hb dX2_circle_13 rfl (lv_at hl 2 rfl) ?_
    refine lv_aload_n hx hb dX2_circle_14 rfl (lv_at hl 0 rfl) ?_
    refine va_get (D := D) (ci := 2) (v := .int (nI nl)) (C := RX2) (T := TX2) (N := 5) hx hb hts in_X2 hown hK hP 0 rfl rfl 3 (by decide) (hts _ q163) (fun _ h9 => h9) rfl dX2_circle_15 ?_
    refine k_icmp_ge (tgt := 84) hx hb dX2_circle_18 (by decide) (by omega) (by omega) (fun c1 => ?_) (fun c1 => ?_)
    · have e0 : i = nl := by omega
      rw [e0] at hU
      exact kk Z' H locs ls hU hP hD hS
    · refine lv_iconst (v := nI 0) hx hb dX2_circle_21 (by decide) ?_
      refine lv_istore (lv' := [(4, .int (nI 0)), (0, .ref hm), (2, .int (nI (2 ^ b))), (3, .int (nI i))]) hx hb dX2_circle_22 hl (by decide) rfl (fun ls hl => ?_)
      refine lp_mcircle_in hb9 C hn1 hn2 hK c1 (fun Z2 H locs ls hU hP hD hS hl => ?_) (nr + 1) 0 Z' H locs ls (by omega) (Nat.zero_le _) (fun k hk => by rw [nt_B0, Int.add_zero]; exact hU k hk) hP hD hS (lv_sub hl [1, 2, 3, 0] rfl)
      refine lv_iinc (v := nI (i + 1)) (lv' := [(3, .int (nI (i + 1))), (0, .ref hm), (2, .int (nI (2 ^ b)))]) hx hb dX2_circle_78 hl (k := 2) rfl (k_inc i) (by decide) rfl (fun ls hl => ?_)
      refine lv_goto (tgt := 13) hx hb dX2_circle_81 (by decide) ?_
      exact ih (i + 1) Z2 H locs ls (by omega) (by omega) (fun k hk => hU k hk) hP hD hS (lv_sub hl [1, 2, 0] rfl)
set_option maxHeartbeats 4000000 in
set_option maxRecDepth 100000 in
/-- circle of the model -/
theorem m_mcircle (l : Launch) (D : va_G) (hm ma mb mz nl nr : Nat) (cI cJ : ClassId) (lf rf : Nat → Int32) (Zf : Nat → Int64) (hn1 : nl ≤ 256) (hn2 : nr ≤ 256) (kd : Int32) : k_Mv l yX2_circle cX2_circle 5 rkL D [.ref hm, .int kd] [(hm, .inr (2, [.ref ma, .ref mb, .ref mz, .int (nI nl), .int (nI nr)])), (ma, .inl (cI, 256, .inl lf)), (mb, .inl (cI, 256, .inl rf)), (mz, .inl (cJ, 512, .inr (.inl Zf)))] [(cI, .int), (cJ, .long)] (fun u : Nat → Int64 => ∀ k, k < 512 → u k = lI (nt_Z nl nr (fun i j => (i + j) % 2 ^ (kd.toBitVec.toNat % 2 ^ 3)) (fun i j => nt_sg false (2 ^ (kd.toBitVec.toNat % 2 ^ 3)) (i + j) * (lf i).toInt * (rf j).toInt) k)) (fun u => [(hm, .inr (2, [.ref ma, .ref mb, .ref mz, .int (nI nl), .int (nI nr)])), (ma, .inl (cI, 256, .inl lf)), (mb, .inl (cI, 256, .inl rf)), (mz, .inl (cJ, 512, .inr (.inl u)))]) (fun _ => [(cI, .int), (cJ, .long)]) 0 0 := by
  intro sz
  refine k_met (Qc := fun A => va_Qv (fun u : Nat → Int64 => ∀ k, k < 512 → u k = lI (nt_Z nl nr (fun i j => (i + j) % 2 ^ (kd.toBitVec.toNat % 2 ^ 3)) (fun i j => nt_sg false (2 ^ (kd.toBitVec.toNat % 2 ^ 3)) (i + j) * (lf i).toInt * (rf j).toInt) k)) (fun u t => k_B D A [(hm, .inr (2, [.ref ma, .ref mb, .ref mz, .int (nI nl), .int (nI nr)])), (ma, .inl (cI, 256, .inl lf)), (mb, .inl (cI, 256, .inl rf)), (mz, .inl (cJ, 512, .inr (.inl u)))] [(cI, .int), (cJ, .long)] t) A) (by decide) (Nat.le_of_ble_eq_true rfl) ?_
  intro p e s m below meth c A ls C hP hK hD hA hS hl
  obtain ⟨hx, hb, hml, hr, hlocks, hown, hin, hts⟩ := id C
  have hown : s.vm.findClass RX2 = some m.cls := hown
  have hl : lv_has ls 5 [(0, .ref hm), (1, .int kd)] := hl
  have hkb : kd.toBitVec.toNat % 2 ^ 3 < 8 := Nat.mod_lt _ (by decide)
  refine lv_iconst (v := nI 1) hx hb dX2_circle_0 (by decide) ?_
  refine lv_iload_n hx hb dX2_circle_1 rfl (lv_at hl 1 rfl) ?_
  refine lv_bipush (v := nI 7) hx hb dX2_circle_2 (by decide) ?_
  refine lv_iand hx hb dX2_circle_4 ?_
  refine k_ti (nI (kd.toBitVec.toNat % 2 ^ 3)) (pk_and kd 3 (by decide)) ?_
  refine lv_ishl hx hb dX2_circle_5 ?_
  refine k_ti (nI (2 ^ (kd.toBitVec.toNat % 2 ^ 3))) (k_1shl (by omega)) ?_
  refine lv_istore_n (lv' := [(2, .int (nI (2 ^ (kd.toBitVec.toNat % 2 ^ 3)))), (0, .ref hm), (1, .int kd)]) hx hb dX2_circle_6 rfl hl (by decide) rfl (fun ls hl => ?_)
  refine lv_aload_n hx hb dX2_circle_7 rfl (lv_at hl 1 rfl) ?_
  refine k_cVv (own := RX2) (wr := [(ma, .inl (cI, 256, .inl lf)), (mb, .inl (cI, 256, .inl rf))]) (wo := fun Z1 => [(hm, .inr (2, [.ref ma, .ref mb, .ref mz, .int (nI nl), .int (nI nr)])), (ma, .inl (cI, 256, .inl lf)), (mb, .inl (cI, 256, .inl rf)), (mz, .inl (cJ, 512, .inr (.inl Z1)))]) C rfl (m_clear l D hm ma mb mz nl nr cJ Zf) (cwV 0 hts (lw_V q192 q194 qs6 q10 q195) rfl rfl rfl (by decide +kernel) ⟨Nat.le_of_ble_eq_true rfl, Nat.le_of_ble_eq_true rfl⟩) hK hP hD hS hA 0 2 rfl rfl rfl [1] rfl [0, 3] [1, 2] rfl (by decide) rfl (by decide) (by decide) [2, 0, 1, 3] (fun _ => rfl) (by decide) rfl hl.1 rfl (Nat.le_of_ble_eq_true rfl) dX2_circle_8 ⟨Nat.zero_le _, Nat.zero_le _⟩ (fun Z1 H locs hw1 hP hD hKn hS => ?_)
  have hP : va_P D vwCl [(hm, .inr (2, [.ref ma, .ref mb, .ref mz, .int (nI nl), .int (nI nr)])), (ma, .inl (cI, 256, .inl lf)), (mb, .inl (cI, 256, .inl rf)), (mz, .inl (cJ, 512, .inr (.inl Z1)))] H := hP
  have hD : va_D A [(hm, .inr (2, [.ref ma, .ref mb, .ref mz, .int (nI nl), .int (nI nr)])), (ma, .inl (cI, 256, .inl lf)), (mb, .inl (cI, 256, .inl rf)), (mz, .inl (cJ, 512, .inr (.inl Z1)))] := hD
  refine lv_iconst (v := nI 0) hx hb dX2_circle_11 (by decide) ?_
  refine lv_istore_n (lv' := [(3, .int (nI 0)), (2, .int (nI (2 ^ (kd.toBitVec.toNat % 2 ^ 3)))), (0, .ref hm), (1, .int kd)]) hx hb dX2_circle_12 rfl hl (by decide) rfl (fun ls hl => ?_)
  refine lp_mcircle_out (b := kd.toBitVec.toNat % 2 ^ 3) (by omega) C hn1 hn2 hK (fun Z' H locs ls hU hP hD hS => ?_) (nl + 1) 0 Z1 H locs ls (by omega) (Nat.zero_le _) (fun k hk => hw1 k hk) hP hD hS (lv_sub hl [2, 1, 0] rfl)
  exact W.vret hx hb hr (fun t ht hW => ⟨⟨Z', rfl, hU, by rw [ht]; exact hP, va_K.moved hW.alike hK, hD⟩, hS.F ht⟩) hS.2.2 dX2_circle_84
set_option maxHeartbeats 4000000 in
set_option maxRecDepth 100000 in
theorem lp_mtwisted_in {p : Program} {l : Launch} {e : Env} {R : Room} {s : State} {m : MethodId} {args : Array Value} {below : List Frame} {meth : Method} {c : Code} {Q : State → Prop} {D : va_G} {cells slots : Nat} {A : Nat → Prop} {hm ma mb mz nl nr : Nat} {cI cJ : ClassId} {lf rf : Nat → Int32} {b : Nat} (hb9 : b ≤ 9) (C : k_C p s m args meth c yX2_twisted cX2_twisted 6 none) (hn1 : nl ≤ 256) (hn2 : nr ≤ 256) (hK : va_K D vwCl [(cI, .int), (cJ, .long)] s) {i : Nat} (hi : i < nl)
    (kk : ∀ (Z' : Nat → Int64) (H : Heap) (locs : List Loc) (ls : Array Slot), (∀ k, k < 512 → Z' k = lI (nt_Z i nr (fun i j => (i + j) % 2 ^ b) (fun i j => nt_sg true (2 ^ b) (i + j) * (lf i).toInt * (rf j).toInt) k + nt_B nr (fun j => (i + j) % 2 ^ b) (fun j => nt_sg true (2 ^ b) (i + j) * (lf i).toInt * (rf j).toInt) k)) → va_P D vwCl [(hm, .inr (2, [.ref ma, .ref mb, .ref mz, .int (nI nl), .int (nI nr)])), (ma, .inl (cI, 256, .inl lf)), (mb, .inl (cI, 256, .inl rf)), (mz, .inl (cJ, 512, .inr (.inl Z')))] H → va_D A [(hm, .inr (2, [.ref ma, .ref mb, .ref mz, .int (nI nl), .int (nI nr)])), (ma, .inl (cI, 256, .inl lf)), (mb, .inl (cI, 256, .inl rf)), (mz, .inl (cJ, 512, .inr (.inl Z')))] → va_S A s.heap H locs → lv_has ls 6 [(0, .ref hm), (2, .int (nI (2 ^ b))), (3, .int (nI i))] → W p l e R s m args below meth c H locs cells slots Q (F0 m 96 ls [])) :
    ∀ (N j : Nat) (Z' : Nat → Int64) (H : Heap) (locs : List Loc) (ls : Array Slot), nr < j + N → j ≤ nr → (∀ k, k < 512 → Z' k = lI (nt_Z i nr (fun i j => (i + j) % 2 ^ b) (fun i j => nt_sg true (2 ^ b) (i + j) * (lf i).toInt * (rf j).toInt) k + nt_B j (fun j => (i + j) % 2 ^ b) (fun j => nt_sg true (2 ^ b) (i + j) * (lf i).toInt * (rf j).toInt) k)) → va_P D vwCl [(hm, .inr (2, [.ref ma, .ref mb, .ref mz, .int (nI nl), .int (nI nr)])), (ma, .inl (cI, 256, .inl lf)), (mb, .inl (cI, 256, .inl rf)), (mz, .inl (cJ, 512, .inr (.inl Z')))] H → va_D A [(hm, .inr (2, [.ref ma, .ref mb, .ref mz, .int (nI nl), .int (nI nr)])), (ma, .inl (cI, 256, .inl lf)), (mb, .inl (cI, 256, .inl rf)), (mz, .inl (cJ, 512, .inr (.inl Z')))] → va_S A s.heap H locs → lv_has ls 6 [(0, .ref hm), (2, .int (nI (2 ^ b))), (3, .int (nI i)), (4, .int (nI j))] → W p l e R s m args below meth c H locs cells slots Q (F0 m 24 ls []) := by
  obtain ⟨hx, hb, hml, hr, hlocks, hown, hin, hts⟩ := id C
  have hown : s.vm.findClass RX2 = some m.cls := hown
  have hb2 := nt_2b hb9
  have hp2 : 0 < 2 ^ b := Nat.two_pow_pos b
  intro N
  induction N with
  | zero => intro j Z' H locs ls h1 h2; exact absurd h1 (by omega)
  | succ N ih =>
    intro j Z' H locs ls h1 h2 hU hP hD hS hl
    refine lv_iload hx hb dX2_twisted_24 (lv_at hl 3 rfl) ?_
    refine lv_aload_n hx hb dX2_twisted_26 rfl (lv_at hl 0 rfl) ?_
    refine va_get (D := D) (ci := 2) (v := .int (nI nr)) (C := RX2) (T := TX2) (N := 5) hx hb hts in_X2 hown hK hP 0 rfl rfl 4 (by decide) (hts _ q164) (fun _ h9 => h9) rfl dX2_twisted_27 ?_
    refine k_icmp_ge (tgt := 96) hx hb dX2_twisted_30 (by decide) (by omega) (by omega) (fun c1 => ?_) (fun c1 => ?_)
    · have e0 : j = nr := by omega
      rw [e0] at hU
      exact kk Z' H locs ls hU hP hD hS (lv_sub hl [0, 1, 2] rfl)
    · have hx1 : (i + j) % 2 ^ b < 2 ^ b := Nat.mod_lt _ hp2
      have hx2 : (i + j) / 2 ^ b ≤ i + j := Nat.div_le_self _ _
      have hst := nt_z_step hU
      refine lv_iload_n hx hb dX2_twisted_33 rfl (lv_at hl 2 rfl) ?_
      refine lv_iload hx hb dX2_twisted_34 (lv_at hl 3 rfl) ?_
      refine k_iadd hx hb dX2_twisted_36  ?_
      refine lv_istore (lv' := [(5, .int (nI (i + j))), (0, .ref hm), (2, .int (nI (2 ^ b))), (3, .int (nI i)), (4, .int (nI j))]) hx hb dX2_twisted_37 hl (by decide) rfl (fun ls hl => ?_)
      refine lv_aload_n hx hb dX2_twisted_39 rfl (lv_at hl 1 rfl) ?_
      refine va_get (D := D) (ci := 2) (v := .ref mz) (C := RX2) (T := TX2) (N := 5) hx hb hts in_X2 hown hK hP 0 rfl rfl 2 (by decide) (hts _ q162) (fun _ h9 => h9) rfl dX2_twisted_40 ?_
      refine lv_iload hx hb dX2_twisted_43 (lv_at hl 0 rfl) ?_
      refine lv_iload_n hx hb dX2_twisted_45 rfl (lv_at hl 2 rfl) ?_
      refine k_irem hx hb dX2_twisted_46 (by omega) (by omega) (by omega) ?_
      refine lv_aload_n hx hb dX2_twisted_47 rfl (lv_at hl 1 rfl) ?_
      refine va_get (D := D) (ci := 2) (v := .ref mz) (C := RX2) (T := TX2) (N := 5) hx hb hts in_X2 hown hK hP 0 rfl rfl 2 (by decide) (hts _ q162) (fun _ h9 => h9) rfl dX2_twisted_48 ?_
      refine lv_iload hx hb dX2_twisted_51 (lv_at hl 0 rfl) ?_
      refine lv_iload_n hx hb dX2_twisted_53 rfl (lv_at hl 2 rfl) ?_
      refine k_irem hx hb dX2_twisted_54 (by omega) (by omega) (by omega) ?_
      refine k_lald hx hb hK hP 3 1 rfl rfl (by omega) (by decide) dX2_twisted_55 ?_
      refine k_tl (lI (nt_Z i nr (fun i j => (i + j) % 2 ^ b) (fun i j => nt_sg true (2 ^ b) (i + j) * (lf i).toInt * (rf j).toInt) ((i + j) % 2 ^ b) + nt_B j (fun j => (i + j) % 2 ^ b) (fun j => nt_sg true (2 ^ b) (i + j) * (lf i).toInt * (rf j).toInt) ((i + j) % 2 ^ b))) (hU _ (by omega)) ?_
      refine lv_iload hx hb dX2_twisted_56 (lv_at hl 0 rfl) ?_
      refine lv_iload_n hx hb dX2_twisted_58 rfl (lv_at hl 2 rfl) ?_
      refine k_idiv hx hb dX2_twisted_59 (by omega) (by omega) (by omega) ?_
      refine lv_iconst (v := nI 1) hx hb dX2_twisted_60 (by decide) ?_
      refine lv_iand hx hb dX2_twisted_61 ?_
      refine k_ti (nI ((i + j) / 2 ^ b % 2)) (k_iand1 _) ?_
      refine k_if_ne (tgt := 69) hx hb dX2_twisted_62 (by decide) (by omega) (fun c2 => ?_) (fun c2 => ?_)
      · refine lv_iconst (v := -1) hx hb dX2_twisted_69 (by decide) ?_
        have e5 : (i + j) / 2 ^ b % 2 = 1 := by omega
        refine lv_i2l (v := lI (nt_sg true (2 ^ b) (i + j))) hx hb dX2_twisted_70 (by rw [nt_sg_m rfl e5]; rfl) ?_
        refine lv_aload_n hx hb dX2_twisted_71 rfl (lv_at hl 1 rfl) ?_
        refine va_get (D := D) (ci := 2) (v := .ref ma) (C := RX2) (T := TX2) (N := 5) hx hb hts in_X2 hown hK hP 0 rfl rfl 0 (by decide) (hts _ q160) (fun _ h9 => h9) rfl dX2_twisted_72 ?_
        refine lv_iload_n hx hb dX2_twisted_75 rfl (lv_at hl 3 rfl) ?_
        refine k_iald hx hb hK hP 1 0 rfl rfl (by omega) (by decide) dX2_twisted_76 ?_
        refine lv_i2l (v := lI (lf i).toInt) hx hb dX2_twisted_77 (lI_i2l _) ?_
        refine lv_lmul hx hb dX2_twisted_78  ?_
        refine k_tl (lI (nt_sg true (2 ^ b) (i + j) * (lf i).toInt)) (lI_mul _ _) ?_
        refine lv_aload_n hx hb dX2_twisted_79 rfl (lv_at hl 1 rfl) ?_
        refine va_get (D := D) (ci := 2) (v := .ref mb) (C := RX2) (T := TX2) (N := 5) hx hb hts in_X2 hown hK hP 0 rfl rfl 1 (by decide) (hts _ q161) (fun _ h9 => h9) rfl dX2_twisted_80 ?_
        refine lv_iload hx hb dX2_twisted_83 (lv_at hl 4 rfl) ?_
        refine k_iald hx hb hK hP 2 0 rfl rfl (by omega) (by decide) dX2_twisted_85 ?_
        refine lv_i2l (v := lI (rf j).toInt) hx hb dX2_twisted_86 (lI_i2l _) ?_
        refine lv_lmul hx hb dX2_twisted_87  ?_
        refine k_tl (lI (nt_sg true (2 ^ b) (i + j) * (lf i).toInt * (rf j).toInt)) (lI_mul _ _) ?_
        refine lv_ladd hx hb dX2_twisted_88  ?_
        refine k_tl (lI (nt_Z i nr (fun i j => (i + j) % 2 ^ b) (fun i j => nt_sg true (2 ^ b) (i + j) * (lf i).toInt * (rf j).toInt) ((i + j) % 2 ^ b) + nt_B j (fun j => (i + j) % 2 ^ b) (fun j => nt_sg true (2 ^ b) (i + j) * (lf i).toInt * (rf j).toInt) ((i + j) % 2 ^ b) + nt_sg true (2 ^ b) (i + j) * (lf i).toInt * (rf j).toInt)) (lI_add _ _) ?_
        refine k_last hx hb hK hP hD hS 3 1 rfl rfl (by omega) (by decide) dX2_twisted_89 (fun H locs hP hD hS => ?_)
        have hP : va_P D vwCl [(hm, .inr (2, [.ref ma, .ref mb, .ref mz, .int (nI nl), .int (nI nr)])), (ma, .inl (cI, 256, .inl lf)), (mb, .inl (cI, 256, .inl rf)), (mz, .inl (cJ, 512, .inr (.inl (vp_updL Z' ((i + j) % (2 ^ b)) (lI (nt_Z i nr (fun i j => (i + j) % 2 ^ b) (fun i j => nt_sg true (2 ^ b) (i + j) * (lf i).toInt * (rf j).toInt) ((i + j) % 2 ^ b) + nt_B j (fun j => (i + j) % 2 ^ b) (fun j => nt_sg true (2 ^ b) (i + j) * (lf i).toInt * (rf j).toInt) ((i + j) % 2 ^ b) + nt_sg true (2 ^ b) (i + j) * (lf i).toInt * (rf j).toInt))))))] H := hP
        have hD : va_D A [(hm, .inr (2, [.ref ma, .ref mb, .ref mz, .int (nI nl), .int (nI nr)])), (ma, .inl (cI, 256, .inl lf)), (mb, .inl (cI, 256, .inl rf)), (mz, .inl (cJ, 512, .inr (.inl (vp_updL Z' ((i + j) % (2 ^ b)) (lI (nt_Z i nr (fun i j => (i + j) % 2 ^ b) (fun i j => nt_sg true (2 ^ b) (i + j) * (lf i).toInt * (rf j).toInt) ((i + j) % 2 ^ b) + nt_B j (fun j => (i + j) % 2 ^ b) (fun j => nt_sg true (2 ^ b) (i + j) * (lf i).toInt * (rf j).toInt) ((i + j) % 2 ^ b) + nt_sg true (2 ^ b) (i + j) * (lf i).toInt * (rf j).toInt))))))] := hD
        refine lv_iinc (v := nI (j + 1)) (lv' := [(4, .int (nI (j + 1))), (5, .int (nI (i + j))), (0, .ref hm), (2, .int (nI (2 ^ b))), (3, .int (nI i))]) hx hb dX2_twisted_90 hl (k := 4) rfl (k_inc j) (by decide) rfl (fun ls hl => ?_)
        refine lv_goto (tgt := 24) hx hb dX2_twisted_93 (by decide) ?_
        exact ih (j + 1) _ H locs ls (by omega) (by omega) hst hP hD hS (lv_sub hl [2, 3, 4, 0] rfl)
      · refine lv_iconst (v := nI 1) hx hb dX2_twisted_65 (by decide) ?_
        refine lv_goto (tgt := 70) hx hb dX2_twisted_66 (by decide) ?_
        refine k_i2l hx hb dX2_twisted_70 (by omega) ?_
        refine k_tl (lI (nt_sg true (2 ^ b) (i + j))) (by rw [nt_sg_1 (Or.inr (by omega))]; rfl) ?_
        refine lv_aload_n hx hb dX2_twisted_71 rfl (lv_at hl 1 rfl) ?_
        refine va_get (D := D) (ci := 2) (v := .ref ma) (C := RX2) (T := TX2) (N := 5) hx hb hts in_X2 hown hK hP 0 rfl rfl 0 (by decide) (hts _ q160) (fun _ h9 => h9) rfl dX2_twisted_72 ?_
        refine lv_iload_n hx hb dX2_twisted_75 rfl (lv_at hl 3 rfl) ?_
        refine k_iald hx hb hK hP 1 0 rfl rfl (by omega) (by decide) dX2_twisted_76 ?_
        refine lv_i2l (v := lI (lf i).toInt) hx hb dX2_twisted_77 (lI_i2l _) ?_
        refine lv_lmul hx hb dX2_twisted_78  ?_
        refine k_tl (lI (nt_sg true (2 ^ b) (i + j) * (lf i).toInt)) (lI_mul _ _) ?_
        refine lv_aload_n hx hb dX2_twisted_79 rfl (lv_at hl 1 rfl) ?_
        refine va_get (D := D) (ci := 2) (v := .ref mb) (C := RX2) (T := TX2) (N := 5) hx hb hts in_X2 hown hK hP 0 rfl rfl 1 (by decide) (hts _ q161) (fun _ h9 => h9) rfl dX2_twisted_80 ?_
        refine lv_iload hx hb dX2_twisted_83 (lv_at hl 4 rfl) ?_
        refine k_iald hx hb hK hP 2 0 rfl rfl (by omega) (by decide) dX2_twisted_85 ?_
        refine lv_i2l (v := lI (rf j).toInt) hx hb dX2_twisted_86 (lI_i2l _) ?_
        refine lv_lmul hx hb dX2_twisted_87  ?_
        refine k_tl (lI (nt_sg true (2 ^ b) (i + j) * (lf i).toInt * (rf j).toInt)) (lI_mul _ _) ?_
        refine lv_ladd hx hb dX2_twisted_88  ?_
        refine k_tl (lI (nt_Z i nr (fun i j => (i + j) % 2 ^ b) (fun i j => nt_sg true (2 ^ b) (i + j) * (lf i).toInt * (rf j).toInt) ((i + j) % 2 ^ b) + nt_B j (fun j => (i + j) % 2 ^ b) (fun j => nt_sg true (2 ^ b) (i + j) * (lf i).toInt * (rf j).toInt) ((i + j) % 2 ^ b) + nt_sg true (2 ^ b) (i + j) * (lf i).toInt * (rf j).toInt)) (lI_add _ _) ?_
        refine k_last hx hb hK hP hD hS 3 1 rfl rfl (by omega) (by decide) dX2_twisted_89 (fun H locs hP hD hS => ?_)
        have hP : va_P D vwCl [(hm, .inr (2, [.ref ma, .ref mb, .ref mz, .int (nI nl), .int (nI nr)])), (ma, .inl (cI, 256, .inl lf)), (mb, .inl (cI, 256, .inl rf)), (mz, .inl (cJ, 512, .inr (.inl (vp_updL Z' ((i + j) % (2 ^ b)) (lI (nt_Z i nr (fun i j => (i + j) % 2 ^ b) (fun i j => nt_sg true (2 ^ b) (i + j) * (lf i).toInt * (rf j).toInt) ((i + j) % 2 ^ b) + nt_B j (fun j => (i + j) % 2 ^ b) (fun j => nt_sg true (2 ^ b) (i + j) * (lf i).toInt * (rf j).toInt) ((i + j) % 2 ^ b) + nt_sg true (2 ^ b) (i + j) * (lf i).toInt * (rf j).toInt))))))] H := hP
        have hD : va_D A [(hm, .inr (2, [.ref ma, .ref mb, .ref mz, .int (nI nl), .int (nI nr)])), (ma, .inl (cI, 256, .inl lf)), (mb, .inl (cI, 256, .inl rf)), (mz, .inl (cJ, 512, .inr (.inl (vp_updL Z' ((i + j) % (2 ^ b)) (lI (nt_Z i nr (fun i j => (i + j) % 2 ^ b) (fun i j => nt_sg true (2 ^ b) (i + j) * (lf i).toInt * (rf j).toInt) ((i + j) % 2 ^ b) + nt_B j (fun j => (i + j) % 2 ^ b) (fun j => nt_sg true (2 ^ b) (i + j) * (lf i).toInt * (rf j).toInt) ((i + j) % 2 ^ b) + nt_sg true (2 ^ b) (i + j) * (lf i).toInt * (rf j).toInt))))))] := hD
        refine lv_iinc (v := nI (j + 1)) (lv' := [(4, .int (nI (j + 1))), (5, .int (nI (i + j))), (0, .ref hm), (2, .int (nI (2 ^ b))), (3, .int (nI i))]) hx hb dX2_twisted_90 hl (k := 4) rfl (k_inc j) (by decide) rfl (fun ls hl => ?_)
        refine lv_goto (tgt := 24) hx hb dX2_twisted_93 (by decide) ?_
        exact ih (j + 1) _ H locs ls (by omega) (by omega) hst hP hD hS (lv_sub hl [2, 3, 4, 0] rfl)
set_option maxHeartbeats 4000000 in
set_option maxRecDepth 100000 in
theorem lp_mtwisted_out {p : Program} {l : Launch} {e : Env} {R : Room} {s : State} {m : MethodId} {args : Array Value} {below : List Frame} {meth : Method} {c : Code} {Q : State → Prop} {D : va_G} {cells slots : Nat} {A : Nat → Prop} {hm ma mb mz nl nr : Nat} {cI cJ : ClassId} {lf rf : Nat → Int32} {b : Nat} (hb9 : b ≤ 9) (C : k_C p s m args meth c yX2_twisted cX2_twisted 6 none) (hn1 : nl ≤ 256) (hn2 : nr ≤ 256) (hK : va_K D vwCl [(cI, .int), (cJ, .long)] s)
    (kk : ∀ (Z' : Nat → Int64) (H : Heap) (locs : List Loc) (ls : Array Slot), (∀ k, k < 512 → Z' k = lI (nt_Z nl nr (fun i j => (i + j) % 2 ^ b) (fun i j => nt_sg true (2 ^ b) (i + j) * (lf i).toInt * (rf j).toInt) k)) → va_P D vwCl [(hm, .inr (2, [.ref ma, .ref mb, .ref mz, .int (nI nl), .int (nI nr)])), (ma, .inl (cI, 256, .inl lf)), (mb, .inl (cI, 256, .inl rf)), (mz, .inl (cJ, 512, .inr (.inl Z')))] H → va_D A [(hm, .inr (2, [.ref ma, .ref mb, .ref mz, .int (nI nl), .int (nI nr)])), (ma, .inl (cI, 256, .inl lf)), (mb, .inl (cI, 256, .inl rf)), (mz, .inl (cJ, 512, .inr (.inl Z')))] → va_S A s.heap H locs → W p l e R s m args below meth c H locs cells slots Q (F0 m 102 ls [])) :
    ∀ (N i : Nat) (Z' : Nat → Int64) (H : Heap) (locs : List Loc) (ls : Array Slot), nl < i + N → i ≤ nl → (∀ k, k < 512 → Z' k = lI (nt_Z i nr (fun i j => (i + j) % 2 ^ b) (fun i j => nt_sg true (2 ^ b) (i + j) * (lf i).toInt * (rf j).toInt) k)) → va_P D vwCl [(hm, .inr (2, [.ref ma, .ref mb, .ref mz, .int (nI nl), .int (nI nr)])), (ma, .inl (cI, 256, .inl lf)), (mb, .inl (cI, 256, .inl rf)), (mz, .inl (cJ, 512, .inr (.inl Z')))] H → va_D A [(hm, .inr (2, [.ref ma, .ref mb, .ref mz, .int (nI nl), .int (nI nr)])), (ma, .inl (cI, 256, .inl lf)), (mb, .inl (cI, 256, .inl rf)), (mz, .inl (cJ, 512, .inr (.inl Z')))] → va_S A s.heap H locs → lv_has ls 6 [(0, .ref hm), (2, .int (nI (2 ^ b))), (3, .int (nI i))] → W p l e R s m args below meth c H locs cells slots Q (F0 m 13 ls []) := by
  obtain ⟨hx, hb, hml, hr, hlocks, hown, hin, hts⟩ := id C
  have hown : s.vm.findClass RX2 = some m.cls := hown
  intro N
  induction N with
  | zero => intro i Z' H locs ls h1 h2; exact absurd h1 (by omega)
  | succ N ih =>
    intro i Z' H locs ls h1 h2 hU hP hD hS hl
    refine lv_iload_n hx hb dX2_twisted_13 rfl (lv_at hl 2 rfl) ?_
    refine lv_aload_n hx hb dX2_twisted_14 rfl (lv_at hl 0 rfl) ?_
    refine va_get (D := D) (ci := 2) (v := .int (nI nl)) (C := RX2) (T := TX2) (N := 5) hx hb hts in_X2 hown hK hP 0 rfl rfl 3 (by decide) (hts _ q163) (fun _ h9 => h9) rfl dX2_twisted_15 ?_
    refine k_icmp_ge (tgt := 102) hx hb dX2_twisted_18 (by decide) (by omega) (by omega) (fun c1 => ?_) (fun c1 => ?_)
    · have e0 : i = nl := by omega
      rw [e0] at hU
      exact kk Z' H locs ls hU hP hD hS
    · refine lv_iconst (v := nI 0) hx hb dX2_twisted_21 (by decide) ?_
      refine lv_istore (lv' := [(4, .int (nI 0)), (0, .ref hm), (2, .int (nI (2 ^ b))), (3, .int (nI i))]) hx hb dX2_twisted_22 hl (by decide) rfl (fun ls hl => ?_)
      refine lp_mtwisted_in hb9 C hn1 hn2 hK c1 (fun Z2 H locs ls hU hP hD hS hl => ?_) (nr + 1) 0 Z' H locs ls (by omega) (Nat.zero_le _) (fun k hk => by rw [nt_B0, Int.add_zero]; exact hU k hk) hP hD hS (lv_sub hl [1, 2, 3, 0] rfl)
      refine lv_iinc (v := nI (i + 1)) (lv' := [(3, .int (nI (i + 1))), (0, .ref hm), (2, .int (nI (2 ^ b)))]) hx hb dX2_twisted_96 hl (k := 2) rfl (k_inc i) (by decide) rfl (fun ls hl => ?_)
      refine lv_goto (tgt := 13) hx hb dX2_twisted_99 (by decide) ?_
      exact ih (i + 1) Z2 H locs ls (by omega) (by omega) (fun k hk => hU k hk) hP hD hS (lv_sub hl [1, 2, 0] rfl)
set_option maxHeartbeats 4000000 in
set_option maxRecDepth 100000 in
/-- twisted of the model -/
theorem m_mtwisted (l : Launch) (D : va_G) (hm ma mb mz nl nr : Nat) (cI cJ : ClassId) (lf rf : Nat → Int32) (Zf : Nat → Int64) (hn1 : nl ≤ 256) (hn2 : nr ≤ 256) (kd : Int32) : k_Mv l yX2_twisted cX2_twisted 6 rkL D [.ref hm, .int kd] [(hm, .inr (2, [.ref ma, .ref mb, .ref mz, .int (nI nl), .int (nI nr)])), (ma, .inl (cI, 256, .inl lf)), (mb, .inl (cI, 256, .inl rf)), (mz, .inl (cJ, 512, .inr (.inl Zf)))] [(cI, .int), (cJ, .long)] (fun u : Nat → Int64 => ∀ k, k < 512 → u k = lI (nt_Z nl nr (fun i j => (i + j) % 2 ^ (kd.toBitVec.toNat % 2 ^ 3)) (fun i j => nt_sg true (2 ^ (kd.toBitVec.toNat % 2 ^ 3)) (i + j) * (lf i).toInt * (rf j).toInt) k)) (fun u => [(hm, .inr (2, [.ref ma, .ref mb, .ref mz, .int (nI nl), .int (nI nr)])), (ma, .inl (cI, 256, .inl lf)), (mb, .inl (cI, 256, .inl rf)), (mz, .inl (cJ, 512, .inr (.inl u)))]) (fun _ => [(cI, .int), (cJ, .long)]) 0 0 := by
  intro sz
  refine k_met (Qc := fun A => va_Qv (fun u : Nat → Int64 => ∀ k, k < 512 → u k = lI (nt_Z nl nr (fun i j => (i + j) % 2 ^ (kd.toBitVec.toNat % 2 ^ 3)) (fun i j => nt_sg true (2 ^ (kd.toBitVec.toNat % 2 ^ 3)) (i + j) * (lf i).toInt * (rf j).toInt) k)) (fun u t => k_B D A [(hm, .inr (2, [.ref ma, .ref mb, .ref mz, .int (nI nl), .int (nI nr)])), (ma, .inl (cI, 256, .inl lf)), (mb, .inl (cI, 256, .inl rf)), (mz, .inl (cJ, 512, .inr (.inl u)))] [(cI, .int), (cJ, .long)] t) A) (by decide) (Nat.le_of_ble_eq_true rfl) ?_
  intro p e s m below meth c A ls C hP hK hD hA hS hl
  obtain ⟨hx, hb, hml, hr, hlocks, hown, hin, hts⟩ := id C
  have hown : s.vm.findClass RX2 = some m.cls := hown
  have hl : lv_has ls 6 [(0, .ref hm), (1, .int kd)] := hl
  have hkb : kd.toBitVec.toNat % 2 ^ 3 < 8 := Nat.mod_lt _ (by decide)
  refine lv_iconst (v := nI 1) hx hb dX2_twisted_0 (by decide) ?_
  refine lv_iload_n hx hb dX2_twisted_1 rfl (lv_at hl 1 rfl) ?_
  refine lv_bipush (v := nI 7) hx hb dX2_twisted_2 (by decide) ?_
  refine lv_iand hx hb dX2_twisted_4 ?_
  refine k_ti (nI (kd.toBitVec.toNat % 2 ^ 3)) (pk_and kd 3 (by decide)) ?_
  refine lv_ishl hx hb dX2_twisted_5 ?_
  refine k_ti (nI (2 ^ (kd.toBitVec.toNat % 2 ^ 3))) (k_1shl (by omega)) ?_
  refine lv_istore_n (lv' := [(2, .int (nI (2 ^ (kd.toBitVec.toNat % 2 ^ 3)))), (0, .ref hm), (1, .int kd)]) hx hb dX2_twisted_6 rfl hl (by decide) rfl (fun ls hl => ?_)
  refine lv_aload_n hx hb dX2_twisted_7 rfl (lv_at hl 1 rfl) ?_
  refine k_cVv (own := RX2) (wr := [(ma, .inl (cI, 256, .inl lf)), (mb, .inl (cI, 256, .inl rf))]) (wo := fun Z1 => [(hm, .inr (2, [.ref ma, .ref mb, .ref mz, .int (nI nl), .int (nI nr)])), (ma, .inl (cI, 256, .inl lf)), (mb, .inl (cI, 256, .inl rf)), (mz, .inl (cJ, 512, .inr (.inl Z1)))]) C rfl (m_clear l D hm ma mb mz nl nr cJ Zf) (cwV 0 hts (lw_V q192 q194 qs6 q10 q195) rfl rfl rfl (by decide +kernel) ⟨Nat.le_of_ble_eq_true rfl, Nat.le_of_ble_eq_true rfl⟩) hK hP hD hS hA 0 2 rfl rfl rfl [1] rfl [0, 3] [1, 2] rfl (by decide) rfl (by decide) (by decide) [2, 0, 1, 3] (fun _ => rfl) (by decide) rfl hl.1 rfl (Nat.le_of_ble_eq_true rfl) dX2_twisted_8 ⟨Nat.zero_le _, Nat.zero_le _⟩ (fun Z1 H locs hw1 hP hD hKn hS => ?_)
  have hP : va_P D vwCl [(hm, .inr (2, [.ref ma, .ref mb, .ref mz, .int (nI nl), .int (nI nr)])), (ma, .inl (cI, 256, .inl lf)), (mb, .inl (cI, 256, .inl rf)), (mz, .inl (cJ, 512, .inr (.inl Z1)))] H := hP
  have hD : va_D A [(hm, .inr (2, [.ref ma, .ref mb, .ref mz, .int (nI nl), .int (nI nr)])), (ma, .inl (cI, 256, .inl lf)), (mb, .inl (cI, 256, .inl rf)), (mz, .inl (cJ, 512, .inr (.inl Z1)))] := hD
  refine lv_iconst (v := nI 0) hx hb dX2_twisted_11 (by decide) ?_
  refine lv_istore_n (lv' := [(3, .int (nI 0)), (2, .int (nI (2 ^ (kd.toBitVec.toNat % 2 ^ 3)))), (0, .ref hm), (1, .int kd)]) hx hb dX2_twisted_12 rfl hl (by decide) rfl (fun ls hl => ?_)
  refine lp_mtwisted_out (b := kd.toBitVec.toNat % 2 ^ 3) (by omega) C hn1 hn2 hK (fun Z' H locs ls hU hP hD hS => ?_) (nl + 1) 0 Z1 H locs ls (by omega) (Nat.zero_le _) (fun k hk => hw1 k hk) hP hD hS (lv_sub hl [2, 1, 0] rfl)
  exact W.vret hx hb hr (fun t ht hW => ⟨⟨Z', rfl, hU, by rw [ht]; exact hP, va_K.moved hW.alike hK, hD⟩, hS.F ht⟩) hS.2.2 dX2_twisted_102
end
section
/-! THE CLAIM OUT OF ONE WALK OF THE LAW'S BODY. Your part is whole_start (and what it stands on); all else here is the same for every law, but numbers. -/
def R_law : String := "ProductDeskLaw"
def lw_P (b : Addr) (xs : List Int32) (args : Array Value) (s : State) : Prop := args = #[.ref b] ∧ s.IntsAt b xs ∧ xs.length ≤ 320 ∧ (Jvm.Cond.and given_1 narrow_1).before args s = true
def lw_Q (_ : Array Value) (s : State) (o : Outcome) (t : State) : Prop := o = .returned (some (.int 1)) ∧ Framed s o t [] 600000 7290000
def lw_Z (below : List Frame) (a : Array Value) (s : State) : State → Prop := fun t => ∃ o, t.status = .running ∧ Ended t below o ∧ lw_Q a s o t
/-- the law's own end, with 1 on the stack, nothing written that was there before, its room as the claim has it -/
theorem lw_ret {p : Program} {l : Launch} {e : Env} {s : State} {m : MethodId} {below : List Frame} {meth : Method} {c : Code} {b : Nat} (hx : p.tables.exec = Jvm.exec) (hb : c.code = code) (hr : meth.sig.returnType = ret) (hlocks : meth.locks = false) {pc : Nat} {H : Heap} {ls : Array Slot} (hdg : decode code pc = .ok (.ireturn, 1)) : W p l e room_1 s m #[Value.ref b] below meth c H [] 600000 7290000 (lw_Z below #[Value.ref b] s) (F0 m pc ls [.int 1]) := by
  intro T hT X
  obtain ⟨fs, hret, hrun, hended, hW, hframe⟩ := X.leave (v := some (.int 1)) (hlocks := hlocks) (fun h => by rw [hr] at h; cases h)
  have hmeth' : T.vm.method? m = some meth := X.method'
  refine ⟨T.setFrames fs, ?_, .returned (some (.int 1)), hrun, hended, rfl, ⟨_, rfl⟩, hW, hframe⟩
  jvm_step X.here [X.here.top, hx, hb, hdg, hmeth', hr, ret, narrow_b1]
  (try refine ⟨rfl, ?_⟩); (try refine ⟨rfl, ?_⟩)
  first | (intro acts; rw [hret _ acts rfl rfl rfl]) | rw [hret _ _ rfl rfl rfl]
  exact Steps.refl _
/-- what holds at the law's entry: the machine, the code, the tables' words (any of lw_tbl by 'hts w (by decide +kernel)'), the script of L ints xs at the cell b, what the Statement gives of the start (any of its parts by flat_of_before) -/
def lw_At (p : Program) (s : State) (m : MethodId) (meth : Method) (c : Code) (b L : Nat) (xs : Nat → Int32) : Prop :=
  p.tables.exec = Jvm.exec ∧ c.code = code ∧ meth.sig.returnType = ret ∧ c.maxLocals = 4 ∧ s.vm.findClass R_law = some m.cls ∧ (∀ w ∈ lw_tbl, w.before #[Value.ref b] s = true) ∧ va_X b L xs s s.heap ∧ b < s.heap.size ∧ meth.locks = false ∧ (Jvm.Cond.and given_1 narrow_1).before #[Value.ref b] s = true
/-- a place of the script -/
theorem k_sld {p : Program} {l : Launch} {e : Env} {R : Room} {s : State} {m : MethodId} {args : Array Value} {below : List Frame} {meth : Method} {c : Code} {H : Heap} {locs : List Loc} {cells slots : Nat} {Q : State → Prop} {cc : ByteArray} {pc : Nat} {ls : Array Slot} {rest : List Value} {A : Nat → Prop} {H0 : Heap}
    (hexec : p.tables.exec = Jvm.exec) (hb : c.code = cc) {b L : Nat} {xs : Nat → Int32} (hX : va_X b L xs s H0) (hbl : b < H0.size) (hbA : ¬ A b) (hS : va_S A H0 H locs) {i : Nat} (hin : i < L) (hL : L ≤ 320) (hdg : decode cc pc = .ok (.iaload, 1))
    (kk : W p l e R s m args below meth c H locs cells slots Q (F0 m (pc + 1) ls (.int (xs i) :: rest))) : W p l e R s m args below meth c H locs cells slots Q (F0 m pc ls (.int (nI i) :: .ref b :: rest)) :=
  va_sld hexec hb hX hbl hbA hS (vp_in_nI hin (by omega)) hdg (by rw [nI_clamp (by omega)]; exact kk)
theorem k_inc5 (a : Nat) : nI a + Int32.ofInt 5 = nI (a + 5) := nI_add a 5
theorem nt_p4_eq {f : Nat → Int32} {n : Nat} {p1 p2 p3 p4 r r' : Int32} {u u' : (Nat → Int32) × Nat} (h : nt_p4 f n p1 p2 p3 p4 r u) (h' : nt_p4 f n p1 p2 p3 p4 r' u') : r = r' ∧ u = u' := by
  rcases Nat.lt_or_ge 256 (n + 4) with q | q
  · obtain ⟨a1, a2, a3⟩ := h.2 q
    obtain ⟨b1, b2, b3⟩ := h'.2 q
    exact ⟨by rw [a1, b1], Prod.ext (by rw [a2, b2]) (by rw [a3, b3])⟩
  · obtain ⟨a1, a2, a3⟩ := h.1 q
    obtain ⟨b1, b2, b3⟩ := h'.1 q
    exact ⟨by rw [a1, b1], Prod.ext (by rw [a2, b2]) (by rw [a3, b3])⟩
theorem nt_p4_ok {f : Nat → Int32} {n : Nat} {p1 p2 p3 p4 r : Int32} {u : (Nat → Int32) × Nat} (hn : n ≤ 256) (hs : nt_sm f) (h : nt_p4 f n p1 p2 p3 p4 r u) : u.2 ≤ 256 ∧ nt_sm u.1 := by
  rcases Nat.lt_or_ge 256 (n + 4) with q | q
  · obtain ⟨a1, a2, a3⟩ := h.2 q
    exact ⟨by rw [a3]; exact hn, by rw [a2]; exact hs⟩
  · obtain ⟨a1, a2, a3⟩ := h.1 q
    exact ⟨by rw [a3]; exact q, by rw [a2]; exact nt_sm_put4 hs _ _ _ _ _⟩
/-- the law's world between two turns: the desk and the model hold the same rows and the same answers -/
def lk_I (D : va_G) (A : Nat → Prop) (s : State) (cI cJ : ClassId) (hd f1 f2 al ar az ax ay a1 b1 a2 b2 hm ma mb mz : Nat) (H : Heap) (locs : List Loc) : Prop :=
  ∃ (nl nr : Nat) (lf rf : Nat → Int32) (Zf Xf Yf A1 B1 A2 B2 Mz : Nat → Int64), nl ≤ 256 ∧ nr ≤ 256 ∧ nt_sm lf ∧ nt_sm rf ∧ (∀ j, j < 512 → Zf j = Mz j) ∧ va_P D vwCl [(hd, .inr (0, [.ref f1, .ref f2, .ref al, .ref ar, .ref az, .ref ax, .ref ay, .int (nI nl), .int (nI nr)])), (f1, .inr (1, [.long (lN nt_P), .ref a1, .ref b1])), (f2, .inr (1, [.long (lN nt_Q), .ref a2, .ref b2])), (al, .inl (cI, 256, .inl lf)), (ar, .inl (cI, 256, .inl rf)), (az, .inl (cJ, 512, .inr (.inl Zf))), (ax, .inl (cJ, 512, .inr (.inl Xf))), (ay, .inl (cJ, 512, .inr (.inl Yf))), (a1, .inl (cJ, 512, .inr (.inl A1))), (b1, .inl (cJ, 512, .inr (.inl B1))), (a2, .inl (cJ, 512, .inr (.inl A2))), (b2, .inl (cJ, 512, .inr (.inl B2))), (hm, .inr (2, [.ref ma, .ref mb, .ref mz, .int (nI nl), .int (nI nr)])), (ma, .inl (cI, 256, .inl lf)), (mb, .inl (cI, 256, .inl rf)), (mz, .inl (cJ, 512, .inr (.inl Mz)))] H ∧ va_D A [(hd, .inr (0, [.ref f1, .ref f2, .ref al, .ref ar, .ref az, .ref ax, .ref ay, .int (nI nl), .int (nI nr)])), (f1, .inr (1, [.long (lN nt_P), .ref a1, .ref b1])), (f2, .inr (1, [.long (lN nt_Q), .ref a2, .ref b2])), (al, .inl (cI, 256, .inl lf)), (ar, .inl (cI, 256, .inl rf)), (az, .inl (cJ, 512, .inr (.inl Zf))), (ax, .inl (cJ, 512, .inr (.inl Xf))), (ay, .inl (cJ, 512, .inr (.inl Yf))), (a1, .inl (cJ, 512, .inr (.inl A1))), (b1, .inl (cJ, 512, .inr (.inl B1))), (a2, .inl (cJ, 512, .inr (.inl A2))), (b2, .inl (cJ, 512, .inr (.inl B2))), (hm, .inr (2, [.ref ma, .ref mb, .ref mz, .int (nI nl), .int (nI nr)])), (ma, .inl (cI, 256, .inl lf)), (mb, .inl (cI, 256, .inl rf)), (mz, .inl (cJ, 512, .inr (.inl Mz)))] ∧ va_S A s.heap H locs
end
section
/-! the law's cases and its loop -/
set_option maxHeartbeats 4000000 in
set_option maxRecDepth 100000 in
theorem law_c0 {p : Program} {l : Launch} {e : Env} {s : State} {m : MethodId} {below : List Frame} {meth : Method} {c : Code} {Q : State → Prop} {D : va_G} {A : Nat → Prop} {sb L : Nat} {xs : Nat → Int32} {cI cJ : ClassId} {hd f1 f2 al ar az ax ay a1 b1 a2 b2 hm ma mb mz : Nat} (C : k_C p s m #[Value.ref sb] meth c ⟨R_law, meth.name, ""⟩ code 4 ret) (hX : va_X sb L xs s s.heap) (hbl : sb < s.heap.size) (hbA : ¬ A sb) (hA : ∀ q : Nat, s.heap.size ≤ q → A q) (hK : va_K D vwCl [(cI, .int), (cJ, .long)] s) (hL : L ≤ 320) {i : Nat} (hi : i + 5 ≤ L) {H : Heap} {locs : List Loc} {ls : Array Slot} (hl : lv_has ls 4 [(0, .ref sb), (1, .ref hd), (2, .ref hm), (3, .int (nI i))]) (hI : lk_I D A s cI cJ hd f1 f2 al ar az ax ay a1 b1 a2 b2 hm ma mb mz H locs)
    (kk : ∀ (H : Heap) (locs : List Loc), lk_I D A s cI cJ hd f1 f2 al ar az ax ay a1 b1 a2 b2 hm ma mb mz H locs → W p l e room_1 s m #[Value.ref sb] below meth c H locs 600000 7290000 Q (F0 m 295 ls [])) : W p l e room_1 s m #[Value.ref sb] below meth c H locs 600000 7290000 Q (F0 m 80 ls []) := by
  obtain ⟨hx, hb, hml, hr, hlocks, hown, hin, hts⟩ := id C
  have hown : s.vm.findClass R_law = some m.cls := hown
  obtain ⟨nl, nr, lf, rf, Zf, Xf, Yf, A1, B1, A2, B2, Mz, hn1, hn2, hsl, hsr, hz, hP, hD, hS⟩ := hI
  refine lv_aload_n hx hb dL_law_80 rfl (lv_at hl 1 rfl) ?_
  refine lv_aload_n hx hb dL_law_81 rfl (lv_at hl 0 rfl) ?_
  refine lv_iload_n hx hb dL_law_82 rfl (lv_at hl 3 rfl) ?_
  refine lv_iconst (v := nI 1) hx hb dL_law_83 (by decide) ?_
  refine k_iadd hx hb dL_law_84  ?_
  refine k_sld hx hb hX hbl hbA hS (by omega) hL dL_law_85 ?_
  refine lv_aload_n hx hb dL_law_86 rfl (lv_at hl 0 rfl) ?_
  refine lv_iload_n hx hb dL_law_87 rfl (lv_at hl 3 rfl) ?_
  refine lv_iconst (v := nI 2) hx hb dL_law_88 (by decide) ?_
  refine k_iadd hx hb dL_law_89  ?_
  refine k_sld hx hb hX hbl hbA hS (by omega) hL dL_law_90 ?_
  refine lv_aload_n hx hb dL_law_91 rfl (lv_at hl 0 rfl) ?_
  refine lv_iload_n hx hb dL_law_92 rfl (lv_at hl 3 rfl) ?_
  refine lv_iconst (v := nI 3) hx hb dL_law_93 (by decide) ?_
  refine k_iadd hx hb dL_law_94  ?_
  refine k_sld hx hb hX hbl hbA hS (by omega) hL dL_law_95 ?_
  refine lv_aload_n hx hb dL_law_96 rfl (lv_at hl 0 rfl) ?_
  refine lv_iload_n hx hb dL_law_97 rfl (lv_at hl 3 rfl) ?_
  refine lv_iconst (v := nI 4) hx hb dL_law_98 (by decide) ?_
  refine k_iadd hx hb dL_law_99  ?_
  refine k_sld hx hb hX hbl hbA hS (by omega) hL dL_law_100 ?_
  refine k_cVi (own := R_law) (wr := [(f1, .inr (1, [.long (lN nt_P), .ref a1, .ref b1])), (f2, .inr (1, [.long (lN nt_Q), .ref a2, .ref b2])), (ar, .inl (cI, 256, .inl rf)), (az, .inl (cJ, 512, .inr (.inl Zf))), (ax, .inl (cJ, 512, .inr (.inl Xf))), (ay, .inl (cJ, 512, .inr (.inl Yf))), (a1, .inl (cJ, 512, .inr (.inl A1))), (b1, .inl (cJ, 512, .inr (.inl B1))), (a2, .inl (cJ, 512, .inr (.inl A2))), (b2, .inl (cJ, 512, .inr (.inl B2))), (hm, .inr (2, [.ref ma, .ref mb, .ref mz, .int (nI nl), .int (nI nr)])), (ma, .inl (cI, 256, .inl lf)), (mb, .inl (cI, 256, .inl rf)), (mz, .inl (cJ, 512, .inr (.inl Mz)))]) (wo := fun u1 => [(hd, .inr (0, [.ref f1, .ref f2, .ref al, .ref ar, .ref az, .ref ax, .ref ay, .int (nI u1.2), .int (nI nr)])), (f1, .inr (1, [.long (lN nt_P), .ref a1, .ref b1])), (f2, .inr (1, [.long (lN nt_Q), .ref a2, .ref b2])), (al, .inl (cI, 256, .inl u1.1)), (ar, .inl (cI, 256, .inl rf)), (az, .inl (cJ, 512, .inr (.inl Zf))), (ax, .inl (cJ, 512, .inr (.inl Xf))), (ay, .inl (cJ, 512, .inr (.inl Yf))), (a1, .inl (cJ, 512, .inr (.inl A1))), (b1, .inl (cJ, 512, .inr (.inl B1))), (a2, .inl (cJ, 512, .inr (.inl A2))), (b2, .inl (cJ, 512, .inr (.inl B2))), (hm, .inr (2, [.ref ma, .ref mb, .ref mz, .int (nI nl), .int (nI nr)])), (ma, .inl (cI, 256, .inl lf)), (mb, .inl (cI, 256, .inl rf)), (mz, .inl (cJ, 512, .inr (.inl Mz)))]) C rfl (m_left l D hd f1 f2 al ar az ax ay nl nr cI lf (xs (i + 1)) (xs (i + 2)) (xs (i + 3)) (xs (i + 4)) hn1) (cwV 4 hts (lw_V q68 q69 q70 q8 q71) rfl rfl rfl (by decide +kernel) ⟨Nat.le_of_ble_eq_true rfl, Nat.le_of_ble_eq_true rfl⟩) hK hP hD hS hA 0 0 rfl rfl rfl [0] rfl [0, 3] [1, 2, 4, 5, 6, 7, 8, 9, 10, 11, 12, 13, 14, 15] rfl (by decide) rfl (by decide) (by decide) [14, 0, 1, 15, 2, 3, 4, 5, 6, 7, 8, 9, 10, 11, 12, 13] (fun _ => rfl) (by decide) rfl hl.1 rfl (Nat.le_of_ble_eq_true rfl) dL_law_101 ⟨Nat.le_of_ble_eq_true rfl, Nat.le_of_ble_eq_true rfl⟩ (fun r1 u1 H locs e1 hP hD hS => ?_)
  have hP : va_P D vwCl [(hd, .inr (0, [.ref f1, .ref f2, .ref al, .ref ar, .ref az, .ref ax, .ref ay, .int (nI u1.2), .int (nI nr)])), (f1, .inr (1, [.long (lN nt_P), .ref a1, .ref b1])), (f2, .inr (1, [.long (lN nt_Q), .ref a2, .ref b2])), (al, .inl (cI, 256, .inl u1.1)), (ar, .inl (cI, 256, .inl rf)), (az, .inl (cJ, 512, .inr (.inl Zf))), (ax, .inl (cJ, 512, .inr (.inl Xf))), (ay, .inl (cJ, 512, .inr (.inl Yf))), (a1, .inl (cJ, 512, .inr (.inl A1))), (b1, .inl (cJ, 512, .inr (.inl B1))), (a2, .inl (cJ, 512, .inr (.inl A2))), (b2, .inl (cJ, 512, .inr (.inl B2))), (hm, .inr (2, [.ref ma, .ref mb, .ref mz, .int (nI nl), .int (nI nr)])), (ma, .inl (cI, 256, .inl lf)), (mb, .inl (cI, 256, .inl rf)), (mz, .inl (cJ, 512, .inr (.inl Mz)))] H := hP
  have hD : va_D A [(hd, .inr (0, [.ref f1, .ref f2, .ref al, .ref ar, .ref az, .ref ax, .ref ay, .int (nI u1.2), .int (nI nr)])), (f1, .inr (1, [.long (lN nt_P), .ref a1, .ref b1])), (f2, .inr (1, [.long (lN nt_Q), .ref a2, .ref b2])), (al, .inl (cI, 256, .inl u1.1)), (ar, .inl (cI, 256, .inl rf)), (az, .inl (cJ, 512, .inr (.inl Zf))), (ax, .inl (cJ, 512, .inr (.inl Xf))), (ay, .inl (cJ, 512, .inr (.inl Yf))), (a1, .inl (cJ, 512, .inr (.inl A1))), (b1, .inl (cJ, 512, .inr (.inl B1))), (a2, .inl (cJ, 512, .inr (.inl A2))), (b2, .inl (cJ, 512, .inr (.inl B2))), (hm, .inr (2, [.ref ma, .ref mb, .ref mz, .int (nI nl), .int (nI nr)])), (ma, .inl (cI, 256, .inl lf)), (mb, .inl (cI, 256, .inl rf)), (mz, .inl (cJ, 512, .inr (.inl Mz)))] := hD
  refine lv_aload_n hx hb dL_law_104 rfl (lv_at hl 2 rfl) ?_
  refine lv_aload_n hx hb dL_law_105 rfl (lv_at hl 0 rfl) ?_
  refine lv_iload_n hx hb dL_law_106 rfl (lv_at hl 3 rfl) ?_
  refine lv_iconst (v := nI 1) hx hb dL_law_107 (by decide) ?_
  refine k_iadd hx hb dL_law_108  ?_
  refine k_sld hx hb hX hbl hbA hS (by omega) hL dL_law_109 ?_
  refine lv_aload_n hx hb dL_law_110 rfl (lv_at hl 0 rfl) ?_
  refine lv_iload_n hx hb dL_law_111 rfl (lv_at hl 3 rfl) ?_
  refine lv_iconst (v := nI 2) hx hb dL_law_112 (by decide) ?_
  refine k_iadd hx hb dL_law_113  ?_
  refine k_sld hx hb hX hbl hbA hS (by omega) hL dL_law_114 ?_
  refine lv_aload_n hx hb dL_law_115 rfl (lv_at hl 0 rfl) ?_
  refine lv_iload_n hx hb dL_law_116 rfl (lv_at hl 3 rfl) ?_
  refine lv_iconst (v := nI 3) hx hb dL_law_117 (by decide) ?_
  refine k_iadd hx hb dL_law_118  ?_
  refine k_sld hx hb hX hbl hbA hS (by omega) hL dL_law_119 ?_
  refine lv_aload_n hx hb dL_law_120 rfl (lv_at hl 0 rfl) ?_
  refine lv_iload_n hx hb dL_law_121 rfl (lv_at hl 3 rfl) ?_
  refine lv_iconst (v := nI 4) hx hb dL_law_122 (by decide) ?_
  refine k_iadd hx hb dL_law_123  ?_
  refine k_sld hx hb hX hbl hbA hS (by omega) hL dL_law_124 ?_
  refine k_cVi (own := R_law) (wr := [(hd, .inr (0, [.ref f1, .ref f2, .ref al, .ref ar, .ref az, .ref ax, .ref ay, .int (nI u1.2), .int (nI nr)])), (f1, .inr (1, [.long (lN nt_P), .ref a1, .ref b1])), (f2, .inr (1, [.long (lN nt_Q), .ref a2, .ref b2])), (al, .inl (cI, 256, .inl u1.1)), (ar, .inl (cI, 256, .inl rf)), (az, .inl (cJ, 512, .inr (.inl Zf))), (ax, .inl (cJ, 512, .inr (.inl Xf))), (ay, .inl (cJ, 512, .inr (.inl Yf))), (a1, .inl (cJ, 512, .inr (.inl A1))), (b1, .inl (cJ, 512, .inr (.inl B1))), (a2, .inl (cJ, 512, .inr (.inl A2))), (b2, .inl (cJ, 512, .inr (.inl B2))), (mb, .inl (cI, 256, .inl rf)), (mz, .inl (cJ, 512, .inr (.inl Mz)))]) (wo := fun u2 => [(hd, .inr (0, [.ref f1, .ref f2, .ref al, .ref ar, .ref az, .ref ax, .ref ay, .int (nI u1.2), .int (nI nr)])), (f1, .inr (1, [.long (lN nt_P), .ref a1, .ref b1])), (f2, .inr (1, [.long (lN nt_Q), .ref a2, .ref b2])), (al, .inl (cI, 256, .inl u1.1)), (ar, .inl (cI, 256, .inl rf)), (az, .inl (cJ, 512, .inr (.inl Zf))), (ax, .inl (cJ, 512, .inr (.inl Xf))), (ay, .inl (cJ, 512, .inr (.inl Yf))), (a1, .inl (cJ, 512, .inr (.inl A1))), (b1, .inl (cJ, 512, .inr (.inl B1))), (a2, .inl (cJ, 512, .inr (.inl A2))), (b2, .inl (cJ, 512, .inr (.inl B2))), (hm, .inr (2, [.ref ma, .ref mb, .ref mz, .int (nI u2.2), .int (nI nr)])), (ma, .inl (cI, 256, .inl u2.1)), (mb, .inl (cI, 256, .inl rf)), (mz, .inl (cJ, 512, .inr (.inl Mz)))]) C rfl (m_mleft l D hm ma mb mz nl nr cI lf (xs (i + 1)) (xs (i + 2)) (xs (i + 3)) (xs (i + 4)) hn1) (cwV 4 hts (lw_V q176 q177 q178 q10 q179) rfl rfl rfl (by decide +kernel) ⟨Nat.le_of_ble_eq_true rfl, Nat.le_of_ble_eq_true rfl⟩) hK hP hD hS hA 0 2 rfl rfl rfl [0] rfl [12, 13] [0, 1, 2, 3, 4, 5, 6, 7, 8, 9, 10, 11, 14, 15] rfl (by decide) rfl (by decide) (by decide) [0, 1, 2, 3, 4, 5, 6, 7, 8, 9, 10, 11, 14, 15, 12, 13] (fun _ => rfl) (by decide) rfl hl.1 rfl (Nat.le_of_ble_eq_true rfl) dL_law_125 ⟨Nat.le_of_ble_eq_true rfl, Nat.le_of_ble_eq_true rfl⟩ (fun r2 u2 H locs e2 hP hD hS => ?_)
  have hP : va_P D vwCl [(hd, .inr (0, [.ref f1, .ref f2, .ref al, .ref ar, .ref az, .ref ax, .ref ay, .int (nI u1.2), .int (nI nr)])), (f1, .inr (1, [.long (lN nt_P), .ref a1, .ref b1])), (f2, .inr (1, [.long (lN nt_Q), .ref a2, .ref b2])), (al, .inl (cI, 256, .inl u1.1)), (ar, .inl (cI, 256, .inl rf)), (az, .inl (cJ, 512, .inr (.inl Zf))), (ax, .inl (cJ, 512, .inr (.inl Xf))), (ay, .inl (cJ, 512, .inr (.inl Yf))), (a1, .inl (cJ, 512, .inr (.inl A1))), (b1, .inl (cJ, 512, .inr (.inl B1))), (a2, .inl (cJ, 512, .inr (.inl A2))), (b2, .inl (cJ, 512, .inr (.inl B2))), (hm, .inr (2, [.ref ma, .ref mb, .ref mz, .int (nI u2.2), .int (nI nr)])), (ma, .inl (cI, 256, .inl u2.1)), (mb, .inl (cI, 256, .inl rf)), (mz, .inl (cJ, 512, .inr (.inl Mz)))] H := hP
  have hD : va_D A [(hd, .inr (0, [.ref f1, .ref f2, .ref al, .ref ar, .ref az, .ref ax, .ref ay, .int (nI u1.2), .int (nI nr)])), (f1, .inr (1, [.long (lN nt_P), .ref a1, .ref b1])), (f2, .inr (1, [.long (lN nt_Q), .ref a2, .ref b2])), (al, .inl (cI, 256, .inl u1.1)), (ar, .inl (cI, 256, .inl rf)), (az, .inl (cJ, 512, .inr (.inl Zf))), (ax, .inl (cJ, 512, .inr (.inl Xf))), (ay, .inl (cJ, 512, .inr (.inl Yf))), (a1, .inl (cJ, 512, .inr (.inl A1))), (b1, .inl (cJ, 512, .inr (.inl B1))), (a2, .inl (cJ, 512, .inr (.inl A2))), (b2, .inl (cJ, 512, .inr (.inl B2))), (hm, .inr (2, [.ref ma, .ref mb, .ref mz, .int (nI u2.2), .int (nI nr)])), (ma, .inl (cI, 256, .inl u2.1)), (mb, .inl (cI, 256, .inl rf)), (mz, .inl (cJ, 512, .inr (.inl Mz)))] := hD
  have q := nt_p4_eq e1 e2
  have q3 := nt_p4_ok hn1 hsl e1
  rw [← q.2] at hP hD
  refine lv_icmp_eq (tgt := 295) hx hb dL_law_128 (by decide)  (fun c1 => ?_) (fun c1 => ?_)
  · exact kk H locs ⟨u1.2, nr, u1.1, rf, Zf, Xf, Yf, A1, B1, A2, B2, Mz, q3.1, hn2, q3.2, hsr, hz, hP, hD, hS⟩
  · exact absurd q.1 c1
set_option maxHeartbeats 4000000 in
set_option maxRecDepth 100000 in
theorem law_c1 {p : Program} {l : Launch} {e : Env} {s : State} {m : MethodId} {below : List Frame} {meth : Method} {c : Code} {Q : State → Prop} {D : va_G} {A : Nat → Prop} {sb L : Nat} {xs : Nat → Int32} {cI cJ : ClassId} {hd f1 f2 al ar az ax ay a1 b1 a2 b2 hm ma mb mz : Nat} (C : k_C p s m #[Value.ref sb] meth c ⟨R_law, meth.name, ""⟩ code 4 ret) (hX : va_X sb L xs s s.heap) (hbl : sb < s.heap.size) (hbA : ¬ A sb) (hA : ∀ q : Nat, s.heap.size ≤ q → A q) (hK : va_K D vwCl [(cI, .int), (cJ, .long)] s) (hL : L ≤ 320) {i : Nat} (hi : i + 5 ≤ L) {H : Heap} {locs : List Loc} {ls : Array Slot} (hl : lv_has ls 4 [(0, .ref sb), (1, .ref hd), (2, .ref hm), (3, .int (nI i))]) (hI : lk_I D A s cI cJ hd f1 f2 al ar az ax ay a1 b1 a2 b2 hm ma mb mz H locs)
    (kk : ∀ (H : Heap) (locs : List Loc), lk_I D A s cI cJ hd f1 f2 al ar az ax ay a1 b1 a2 b2 hm ma mb mz H locs → W p l e room_1 s m #[Value.ref sb] below meth c H locs 600000 7290000 Q (F0 m 295 ls [])) : W p l e room_1 s m #[Value.ref sb] below meth c H locs 600000 7290000 Q (F0 m 133 ls []) := by
  obtain ⟨hx, hb, hml, hr, hlocks, hown, hin, hts⟩ := id C
  have hown : s.vm.findClass R_law = some m.cls := hown
  obtain ⟨nl, nr, lf, rf, Zf, Xf, Yf, A1, B1, A2, B2, Mz, hn1, hn2, hsl, hsr, hz, hP, hD, hS⟩ := hI
  refine lv_aload_n hx hb dL_law_133 rfl (lv_at hl 1 rfl) ?_
  refine lv_aload_n hx hb dL_law_134 rfl (lv_at hl 0 rfl) ?_
  refine lv_iload_n hx hb dL_law_135 rfl (lv_at hl 3 rfl) ?_
  refine lv_iconst (v := nI 1) hx hb dL_law_136 (by decide) ?_
  refine k_iadd hx hb dL_law_137  ?_
  refine k_sld hx hb hX hbl hbA hS (by omega) hL dL_law_138 ?_
  refine lv_aload_n hx hb dL_law_139 rfl (lv_at hl 0 rfl) ?_
  refine lv_iload_n hx hb dL_law_140 rfl (lv_at hl 3 rfl) ?_
  refine lv_iconst (v := nI 2) hx hb dL_law_141 (by decide) ?_
  refine k_iadd hx hb dL_law_142  ?_
  refine k_sld hx hb hX hbl hbA hS (by omega) hL dL_law_143 ?_
  refine lv_aload_n hx hb dL_law_144 rfl (lv_at hl 0 rfl) ?_
  refine lv_iload_n hx hb dL_law_145 rfl (lv_at hl 3 rfl) ?_
  refine lv_iconst (v := nI 3) hx hb dL_law_146 (by decide) ?_
  refine k_iadd hx hb dL_law_147  ?_
  refine k_sld hx hb hX hbl hbA hS (by omega) hL dL_law_148 ?_
  refine lv_aload_n hx hb dL_law_149 rfl (lv_at hl 0 rfl) ?_
  refine lv_iload_n hx hb dL_law_150 rfl (lv_at hl 3 rfl) ?_
  refine lv_iconst (v := nI 4) hx hb dL_law_151 (by decide) ?_
  refine k_iadd hx hb dL_law_152  ?_
  refine k_sld hx hb hX hbl hbA hS (by omega) hL dL_law_153 ?_
  refine k_cVi (own := R_law) (wr := [(f1, .inr (1, [.long (lN nt_P), .ref a1, .ref b1])), (f2, .inr (1, [.long (lN nt_Q), .ref a2, .ref b2])), (al, .inl (cI, 256, .inl lf)), (az, .inl (cJ, 512, .inr (.inl Zf))), (ax, .inl (cJ, 512, .inr (.inl Xf))), (ay, .inl (cJ, 512, .inr (.inl Yf))), (a1, .inl (cJ, 512, .inr (.inl A1))), (b1, .inl (cJ, 512, .inr (.inl B1))), (a2, .inl (cJ, 512, .inr (.inl A2))), (b2, .inl (cJ, 512, .inr (.inl B2))), (hm, .inr (2, [.ref ma, .ref mb, .ref mz, .int (nI nl), .int (nI nr)])), (ma, .inl (cI, 256, .inl lf)), (mb, .inl (cI, 256, .inl rf)), (mz, .inl (cJ, 512, .inr (.inl Mz)))]) (wo := fun u1 => [(hd, .inr (0, [.ref f1, .ref f2, .ref al, .ref ar, .ref az, .ref ax, .ref ay, .int (nI nl), .int (nI u1.2)])), (f1, .inr (1, [.long (lN nt_P), .ref a1, .ref b1])), (f2, .inr (1, [.long (lN nt_Q), .ref a2, .ref b2])), (al, .inl (cI, 256, .inl lf)), (ar, .inl (cI, 256, .inl u1.1)), (az, .inl (cJ, 512, .inr (.inl Zf))), (ax, .inl (cJ, 512, .inr (.inl Xf))), (ay, .inl (cJ, 512, .inr (.inl Yf))), (a1, .inl (cJ, 512, .inr (.inl A1))), (b1, .inl (cJ, 512, .inr (.inl B1))), (a2, .inl (cJ, 512, .inr (.inl A2))), (b2, .inl (cJ, 512, .inr (.inl B2))), (hm, .inr (2, [.ref ma, .ref mb, .ref mz, .int (nI nl), .int (nI nr)])), (ma, .inl (cI, 256, .inl lf)), (mb, .inl (cI, 256, .inl rf)), (mz, .inl (cJ, 512, .inr (.inl Mz)))]) C rfl (m_right l D hd f1 f2 al ar az ax ay nl nr cI rf (xs (i + 1)) (xs (i + 2)) (xs (i + 3)) (xs (i + 4)) hn2) (cwV 4 hts (lw_V q75 q76 q77 q8 q78) rfl rfl rfl (by decide +kernel) ⟨Nat.le_of_ble_eq_true rfl, Nat.le_of_ble_eq_true rfl⟩) hK hP hD hS hA 0 0 rfl rfl rfl [0] rfl [0, 4] [1, 2, 3, 5, 6, 7, 8, 9, 10, 11, 12, 13, 14, 15] rfl (by decide) rfl (by decide) (by decide) [14, 0, 1, 2, 15, 3, 4, 5, 6, 7, 8, 9, 10, 11, 12, 13] (fun _ => rfl) (by decide) rfl hl.1 rfl (Nat.le_of_ble_eq_true rfl) dL_law_154 ⟨Nat.le_of_ble_eq_true rfl, Nat.le_of_ble_eq_true rfl⟩ (fun r1 u1 H locs e1 hP hD hS => ?_)
  have hP : va_P D vwCl [(hd, .inr (0, [.ref f1, .ref f2, .ref al, .ref ar, .ref az, .ref ax, .ref ay, .int (nI nl), .int (nI u1.2)])), (f1, .inr (1, [.long (lN nt_P), .ref a1, .ref b1])), (f2, .inr (1, [.long (lN nt_Q), .ref a2, .ref b2])), (al, .inl (cI, 256, .inl lf)), (ar, .inl (cI, 256, .inl u1.1)), (az, .inl (cJ, 512, .inr (.inl Zf))), (ax, .inl (cJ, 512, .inr (.inl Xf))), (ay, .inl (cJ, 512, .inr (.inl Yf))), (a1, .inl (cJ, 512, .inr (.inl A1))), (b1, .inl (cJ, 512, .inr (.inl B1))), (a2, .inl (cJ, 512, .inr (.inl A2))), (b2, .inl (cJ, 512, .inr (.inl B2))), (hm, .inr (2, [.ref ma, .ref mb, .ref mz, .int (nI nl), .int (nI nr)])), (ma, .inl (cI, 256, .inl lf)), (mb, .inl (cI, 256, .inl rf)), (mz, .inl (cJ, 512, .inr (.inl Mz)))] H := hP
  have hD : va_D A [(hd, .inr (0, [.ref f1, .ref f2, .ref al, .ref ar, .ref az, .ref ax, .ref ay, .int (nI nl), .int (nI u1.2)])), (f1, .inr (1, [.long (lN nt_P), .ref a1, .ref b1])), (f2, .inr (1, [.long (lN nt_Q), .ref a2, .ref b2])), (al, .inl (cI, 256, .inl lf)), (ar, .inl (cI, 256, .inl u1.1)), (az, .inl (cJ, 512, .inr (.inl Zf))), (ax, .inl (cJ, 512, .inr (.inl Xf))), (ay, .inl (cJ, 512, .inr (.inl Yf))), (a1, .inl (cJ, 512, .inr (.inl A1))), (b1, .inl (cJ, 512, .inr (.inl B1))), (a2, .inl (cJ, 512, .inr (.inl A2))), (b2, .inl (cJ, 512, .inr (.inl B2))), (hm, .inr (2, [.ref ma, .ref mb, .ref mz, .int (nI nl), .int (nI nr)])), (ma, .inl (cI, 256, .inl lf)), (mb, .inl (cI, 256, .inl rf)), (mz, .inl (cJ, 512, .inr (.inl Mz)))] := hD
  refine lv_aload_n hx hb dL_law_157 rfl (lv_at hl 2 rfl) ?_
  refine lv_aload_n hx hb dL_law_158 rfl (lv_at hl 0 rfl) ?_
  refine lv_iload_n hx hb dL_law_159 rfl (lv_at hl 3 rfl) ?_
  refine lv_iconst (v := nI 1) hx hb dL_law_160 (by decide) ?_
  refine k_iadd hx hb dL_law_161  ?_
  refine k_sld hx hb hX hbl hbA hS (by omega) hL dL_law_162 ?_
  refine lv_aload_n hx hb dL_law_163 rfl (lv_at hl 0 rfl) ?_
  refine lv_iload_n hx hb dL_law_164 rfl (lv_at hl 3 rfl) ?_
  refine lv_iconst (v := nI 2) hx hb dL_law_165 (by decide) ?_
  refine k_iadd hx hb dL_law_166  ?_
  refine k_sld hx hb hX hbl hbA hS (by omega) hL dL_law_167 ?_
  refine lv_aload_n hx hb dL_law_168 rfl (lv_at hl 0 rfl) ?_
  refine lv_iload_n hx hb dL_law_169 rfl (lv_at hl 3 rfl) ?_
  refine lv_iconst (v := nI 3) hx hb dL_law_170 (by decide) ?_
  refine k_iadd hx hb dL_law_171  ?_
  refine k_sld hx hb hX hbl hbA hS (by omega) hL dL_law_172 ?_
  refine lv_aload_n hx hb dL_law_173 rfl (lv_at hl 0 rfl) ?_
  refine lv_iload_n hx hb dL_law_174 rfl (lv_at hl 3 rfl) ?_
  refine lv_iconst (v := nI 4) hx hb dL_law_175 (by decide) ?_
  refine k_iadd hx hb dL_law_176  ?_
  refine k_sld hx hb hX hbl hbA hS (by omega) hL dL_law_177 ?_
  refine k_cVi (own := R_law) (wr := [(hd, .inr (0, [.ref f1, .ref f2, .ref al, .ref ar, .ref az, .ref ax, .ref ay, .int (nI nl), .int (nI u1.2)])), (f1, .inr (1, [.long (lN nt_P), .ref a1, .ref b1])), (f2, .inr (1, [.long (lN nt_Q), .ref a2, .ref b2])), (al, .inl (cI, 256, .inl lf)), (ar, .inl (cI, 256, .inl u1.1)), (az, .inl (cJ, 512, .inr (.inl Zf))), (ax, .inl (cJ, 512, .inr (.inl Xf))), (ay, .inl (cJ, 512, .inr (.inl Yf))), (a1, .inl (cJ, 512, .inr (.inl A1))), (b1, .inl (cJ, 512, .inr (.inl B1))), (a2, .inl (cJ, 512, .inr (.inl A2))), (b2, .inl (cJ, 512, .inr (.inl B2))), (ma, .inl (cI, 256, .inl lf)), (mz, .inl (cJ, 512, .inr (.inl Mz)))]) (wo := fun u2 => [(hd, .inr (0, [.ref f1, .ref f2, .ref al, .ref ar, .ref az, .ref ax, .ref ay, .int (nI nl), .int (nI u1.2)])), (f1, .inr (1, [.long (lN nt_P), .ref a1, .ref b1])), (f2, .inr (1, [.long (lN nt_Q), .ref a2, .ref b2])), (al, .inl (cI, 256, .inl lf)), (ar, .inl (cI, 256, .inl u1.1)), (az, .inl (cJ, 512, .inr (.inl Zf))), (ax, .inl (cJ, 512, .inr (.inl Xf))), (ay, .inl (cJ, 512, .inr (.inl Yf))), (a1, .inl (cJ, 512, .inr (.inl A1))), (b1, .inl (cJ, 512, .inr (.inl B1))), (a2, .inl (cJ, 512, .inr (.inl A2))), (b2, .inl (cJ, 512, .inr (.inl B2))), (hm, .inr (2, [.ref ma, .ref mb, .ref mz, .int (nI nl), .int (nI u2.2)])), (ma, .inl (cI, 256, .inl lf)), (mb, .inl (cI, 256, .inl u2.1)), (mz, .inl (cJ, 512, .inr (.inl Mz)))]) C rfl (m_mright l D hm ma mb mz nl nr cI rf (xs (i + 1)) (xs (i + 2)) (xs (i + 3)) (xs (i + 4)) hn2) (cwV 4 hts (lw_V q180 q181 q182 q10 q183) rfl rfl rfl (by decide +kernel) ⟨Nat.le_of_ble_eq_true rfl, Nat.le_of_ble_eq_true rfl⟩) hK hP hD hS hA 0 2 rfl rfl rfl [0] rfl [12, 14] [0, 1, 2, 3, 4, 5, 6, 7, 8, 9, 10, 11, 13, 15] rfl (by decide) rfl (by decide) (by decide) [0, 1, 2, 3, 4, 5, 6, 7, 8, 9, 10, 11, 14, 12, 15, 13] (fun _ => rfl) (by decide) rfl hl.1 rfl (Nat.le_of_ble_eq_true rfl) dL_law_178 ⟨Nat.le_of_ble_eq_true rfl, Nat.le_of_ble_eq_true rfl⟩ (fun r2 u2 H locs e2 hP hD hS => ?_)
  have hP : va_P D vwCl [(hd, .inr (0, [.ref f1, .ref f2, .ref al, .ref ar, .ref az, .ref ax, .ref ay, .int (nI nl), .int (nI u1.2)])), (f1, .inr (1, [.long (lN nt_P), .ref a1, .ref b1])), (f2, .inr (1, [.long (lN nt_Q), .ref a2, .ref b2])), (al, .inl (cI, 256, .inl lf)), (ar, .inl (cI, 256, .inl u1.1)), (az, .inl (cJ, 512, .inr (.inl Zf))), (ax, .inl (cJ, 512, .inr (.inl Xf))), (ay, .inl (cJ, 512, .inr (.inl Yf))), (a1, .inl (cJ, 512, .inr (.inl A1))), (b1, .inl (cJ, 512, .inr (.inl B1))), (a2, .inl (cJ, 512, .inr (.inl A2))), (b2, .inl (cJ, 512, .inr (.inl B2))), (hm, .inr (2, [.ref ma, .ref mb, .ref mz, .int (nI nl), .int (nI u2.2)])), (ma, .inl (cI, 256, .inl lf)), (mb, .inl (cI, 256, .inl u2.1)), (mz, .inl (cJ, 512, .inr (.inl Mz)))] H := hP
  have hD : va_D A [(hd, .inr (0, [.ref f1, .ref f2, .ref al, .ref ar, .ref az, .ref ax, .ref ay, .int (nI nl), .int (nI u1.2)])), (f1, .inr (1, [.long (lN nt_P), .ref a1, .ref b1])), (f2, .inr (1, [.long (lN nt_Q), .ref a2, .ref b2])), (al, .inl (cI, 256, .inl lf)), (ar, .inl (cI, 256, .inl u1.1)), (az, .inl (cJ, 512, .inr (.inl Zf))), (ax, .inl (cJ, 512, .inr (.inl Xf))), (ay, .inl (cJ, 512, .inr (.inl Yf))), (a1, .inl (cJ, 512, .inr (.inl A1))), (b1, .inl (cJ, 512, .inr (.inl B1))), (a2, .inl (cJ, 512, .inr (.inl A2))), (b2, .inl (cJ, 512, .inr (.inl B2))), (hm, .inr (2, [.ref ma, .ref mb, .ref mz, .int (nI nl), .int (nI u2.2)])), (ma, .inl (cI, 256, .inl lf)), (mb, .inl (cI, 256, .inl u2.1)), (mz, .inl (cJ, 512, .inr (.inl Mz)))] := hD
  have q := nt_p4_eq e1 e2
  have q3 := nt_p4_ok hn2 hsr e1
  rw [← q.2] at hP hD
  refine lv_icmp_eq (tgt := 295) hx hb dL_law_181 (by decide)  (fun c1 => ?_) (fun c1 => ?_)
  · exact kk H locs ⟨nl, u1.2, lf, u1.1, Zf, Xf, Yf, A1, B1, A2, B2, Mz, hn1, q3.1, hsl, q3.2, hz, hP, hD, hS⟩
  · exact absurd q.1 c1
set_option maxHeartbeats 4000000 in
set_option maxRecDepth 100000 in
theorem law_c2 {p : Program} {l : Launch} {e : Env} {s : State} {m : MethodId} {below : List Frame} {meth : Method} {c : Code} {Q : State → Prop} {D : va_G} {A : Nat → Prop} {sb L : Nat} {xs : Nat → Int32} {cI cJ : ClassId} {hd f1 f2 al ar az ax ay a1 b1 a2 b2 hm ma mb mz : Nat} (C : k_C p s m #[Value.ref sb] meth c ⟨R_law, meth.name, ""⟩ code 4 ret) (hX : va_X sb L xs s s.heap) (hbl : sb < s.heap.size) (hbA : ¬ A sb) (hA : ∀ q : Nat, s.heap.size ≤ q → A q) (hK : va_K D vwCl [(cI, .int), (cJ, .long)] s) (hL : L ≤ 320) {i : Nat} (hi : i + 5 ≤ L) {H : Heap} {locs : List Loc} {ls : Array Slot} (hl : lv_has ls 4 [(0, .ref sb), (1, .ref hd), (2, .ref hm), (3, .int (nI i))]) (hI : lk_I D A s cI cJ hd f1 f2 al ar az ax ay a1 b1 a2 b2 hm ma mb mz H locs)
    (kk : ∀ (H : Heap) (locs : List Loc), lk_I D A s cI cJ hd f1 f2 al ar az ax ay a1 b1 a2 b2 hm ma mb mz H locs → W p l e room_1 s m #[Value.ref sb] below meth c H locs 600000 7290000 Q (F0 m 295 ls [])) : W p l e room_1 s m #[Value.ref sb] below meth c H locs 600000 7290000 Q (F0 m 186 ls []) := by
  obtain ⟨hx, hb, hml, hr, hlocks, hown, hin, hts⟩ := id C
  have hown : s.vm.findClass R_law = some m.cls := hown
  obtain ⟨nl, nr, lf, rf, Zf, Xf, Yf, A1, B1, A2, B2, Mz, hn1, hn2, hsl, hsr, hz, hP, hD, hS⟩ := hI
  refine lv_aload_n hx hb dL_law_186 rfl (lv_at hl 1 rfl) ?_
  refine lv_aload_n hx hb dL_law_187 rfl (lv_at hl 0 rfl) ?_
  refine lv_iload_n hx hb dL_law_188 rfl (lv_at hl 3 rfl) ?_
  refine lv_iconst (v := nI 1) hx hb dL_law_189 (by decide) ?_
  refine k_iadd hx hb dL_law_190  ?_
  refine k_sld hx hb hX hbl hbA hS (by omega) hL dL_law_191 ?_
  refine k_cVv (own := R_law) (wr := [(f1, .inr (1, [.long (lN nt_P), .ref a1, .ref b1])), (f2, .inr (1, [.long (lN nt_Q), .ref a2, .ref b2])), (al, .inl (cI, 256, .inl lf)), (ar, .inl (cI, 256, .inl rf)), (az, .inl (cJ, 512, .inr (.inl Zf))), (ax, .inl (cJ, 512, .inr (.inl Xf))), (ay, .inl (cJ, 512, .inr (.inl Yf))), (a1, .inl (cJ, 512, .inr (.inl A1))), (b1, .inl (cJ, 512, .inr (.inl B1))), (a2, .inl (cJ, 512, .inr (.inl A2))), (b2, .inl (cJ, 512, .inr (.inl B2))), (hm, .inr (2, [.ref ma, .ref mb, .ref mz, .int (nI nl), .int (nI nr)])), (ma, .inl (cI, 256, .inl lf)), (mb, .inl (cI, 256, .inl rf)), (mz, .inl (cJ, 512, .inr (.inl Mz)))]) (wo := fun u1 => [(hd, .inr (0, [.ref f1, .ref f2, .ref al, .ref ar, .ref az, .ref ax, .ref ay, .int (nI u1.1), .int (nI u1.2)])), (f1, .inr (1, [.long (lN nt_P), .ref a1, .ref b1])), (f2, .inr (1, [.long (lN nt_Q), .ref a2, .ref b2])), (al, .inl (cI, 256, .inl lf)), (ar, .inl (cI, 256, .inl rf)), (az, .inl (cJ, 512, .inr (.inl Zf))), (ax, .inl (cJ, 512, .inr (.inl Xf))), (ay, .inl (cJ, 512, .inr (.inl Yf))), (a1, .inl (cJ, 512, .inr (.inl A1))), (b1, .inl (cJ, 512, .inr (.inl B1))), (a2, .inl (cJ, 512, .inr (.inl A2))), (b2, .inl (cJ, 512, .inr (.inl B2))), (hm, .inr (2, [.ref ma, .ref mb, .ref mz, .int (nI nl), .int (nI nr)])), (ma, .inl (cI, 256, .inl lf)), (mb, .inl (cI, 256, .inl rf)), (mz, .inl (cJ, 512, .inr (.inl Mz)))]) C rfl (m_wipe l D hd f1 f2 al ar az ax ay nl nr (xs (i + 1))) (cwV 1 hts (lw_V q79 q80 q81 q8 q82) rfl rfl rfl (by decide +kernel) ⟨Nat.le_of_ble_eq_true rfl, Nat.le_of_ble_eq_true rfl⟩) hK hP hD hS hA 0 0 rfl rfl rfl [] rfl [0] [1, 2, 3, 4, 5, 6, 7, 8, 9, 10, 11, 12, 13, 14, 15] rfl (by decide) rfl (by decide) (by decide) [15, 0, 1, 2, 3, 4, 5, 6, 7, 8, 9, 10, 11, 12, 13, 14] (fun _ => rfl) (by decide) rfl hl.1 rfl (Nat.le_of_ble_eq_true rfl) dL_law_192 ⟨Nat.le_of_ble_eq_true rfl, Nat.le_of_ble_eq_true rfl⟩ (fun u1 H locs e1 hP hD hKn hS => ?_)
  have hP : va_P D vwCl [(hd, .inr (0, [.ref f1, .ref f2, .ref al, .ref ar, .ref az, .ref ax, .ref ay, .int (nI u1.1), .int (nI u1.2)])), (f1, .inr (1, [.long (lN nt_P), .ref a1, .ref b1])), (f2, .inr (1, [.long (lN nt_Q), .ref a2, .ref b2])), (al, .inl (cI, 256, .inl lf)), (ar, .inl (cI, 256, .inl rf)), (az, .inl (cJ, 512, .inr (.inl Zf))), (ax, .inl (cJ, 512, .inr (.inl Xf))), (ay, .inl (cJ, 512, .inr (.inl Yf))), (a1, .inl (cJ, 512, .inr (.inl A1))), (b1, .inl (cJ, 512, .inr (.inl B1))), (a2, .inl (cJ, 512, .inr (.inl A2))), (b2, .inl (cJ, 512, .inr (.inl B2))), (hm, .inr (2, [.ref ma, .ref mb, .ref mz, .int (nI nl), .int (nI nr)])), (ma, .inl (cI, 256, .inl lf)), (mb, .inl (cI, 256, .inl rf)), (mz, .inl (cJ, 512, .inr (.inl Mz)))] H := hP
  have hD : va_D A [(hd, .inr (0, [.ref f1, .ref f2, .ref al, .ref ar, .ref az, .ref ax, .ref ay, .int (nI u1.1), .int (nI u1.2)])), (f1, .inr (1, [.long (lN nt_P), .ref a1, .ref b1])), (f2, .inr (1, [.long (lN nt_Q), .ref a2, .ref b2])), (al, .inl (cI, 256, .inl lf)), (ar, .inl (cI, 256, .inl rf)), (az, .inl (cJ, 512, .inr (.inl Zf))), (ax, .inl (cJ, 512, .inr (.inl Xf))), (ay, .inl (cJ, 512, .inr (.inl Yf))), (a1, .inl (cJ, 512, .inr (.inl A1))), (b1, .inl (cJ, 512, .inr (.inl B1))), (a2, .inl (cJ, 512, .inr (.inl A2))), (b2, .inl (cJ, 512, .inr (.inl B2))), (hm, .inr (2, [.ref ma, .ref mb, .ref mz, .int (nI nl), .int (nI nr)])), (ma, .inl (cI, 256, .inl lf)), (mb, .inl (cI, 256, .inl rf)), (mz, .inl (cJ, 512, .inr (.inl Mz)))] := hD
  refine lv_aload_n hx hb dL_law_195 rfl (lv_at hl 2 rfl) ?_
  refine lv_aload_n hx hb dL_law_196 rfl (lv_at hl 0 rfl) ?_
  refine lv_iload_n hx hb dL_law_197 rfl (lv_at hl 3 rfl) ?_
  refine lv_iconst (v := nI 1) hx hb dL_law_198 (by decide) ?_
  refine k_iadd hx hb dL_law_199  ?_
  refine k_sld hx hb hX hbl hbA hS (by omega) hL dL_law_200 ?_
  refine k_cVv (own := R_law) (wr := [(hd, .inr (0, [.ref f1, .ref f2, .ref al, .ref ar, .ref az, .ref ax, .ref ay, .int (nI u1.1), .int (nI u1.2)])), (f1, .inr (1, [.long (lN nt_P), .ref a1, .ref b1])), (f2, .inr (1, [.long (lN nt_Q), .ref a2, .ref b2])), (al, .inl (cI, 256, .inl lf)), (ar, .inl (cI, 256, .inl rf)), (az, .inl (cJ, 512, .inr (.inl Zf))), (ax, .inl (cJ, 512, .inr (.inl Xf))), (ay, .inl (cJ, 512, .inr (.inl Yf))), (a1, .inl (cJ, 512, .inr (.inl A1))), (b1, .inl (cJ, 512, .inr (.inl B1))), (a2, .inl (cJ, 512, .inr (.inl A2))), (b2, .inl (cJ, 512, .inr (.inl B2))), (ma, .inl (cI, 256, .inl lf)), (mb, .inl (cI, 256, .inl rf)), (mz, .inl (cJ, 512, .inr (.inl Mz)))]) (wo := fun u2 => [(hd, .inr (0, [.ref f1, .ref f2, .ref al, .ref ar, .ref az, .ref ax, .ref ay, .int (nI u1.1), .int (nI u1.2)])), (f1, .inr (1, [.long (lN nt_P), .ref a1, .ref b1])), (f2, .inr (1, [.long (lN nt_Q), .ref a2, .ref b2])), (al, .inl (cI, 256, .inl lf)), (ar, .inl (cI, 256, .inl rf)), (az, .inl (cJ, 512, .inr (.inl Zf))), (ax, .inl (cJ, 512, .inr (.inl Xf))), (ay, .inl (cJ, 512, .inr (.inl Yf))), (a1, .inl (cJ, 512, .inr (.inl A1))), (b1, .inl (cJ, 512, .inr (.inl B1))), (a2, .inl (cJ, 512, .inr (.inl A2))), (b2, .inl (cJ, 512, .inr (.inl B2))), (hm, .inr (2, [.ref ma, .ref mb, .ref mz, .int (nI u2.1), .int (nI u2.2)])), (ma, .inl (cI, 256, .inl lf)), (mb, .inl (cI, 256, .inl rf)), (mz, .inl (cJ, 512, .inr (.inl Mz)))]) C rfl (m_mwipe l D hm ma mb mz nl nr (xs (i + 1))) (cwV 1 hts (lw_V q184 q185 q186 q10 q187) rfl rfl rfl (by decide +kernel) ⟨Nat.le_of_ble_eq_true rfl, Nat.le_of_ble_eq_true rfl⟩) hK hP hD hS hA 0 2 rfl rfl rfl [] rfl [12] [0, 1, 2, 3, 4, 5, 6, 7, 8, 9, 10, 11, 13, 14, 15] rfl (by decide) rfl (by decide) (by decide) [0, 1, 2, 3, 4, 5, 6, 7, 8, 9, 10, 11, 15, 12, 13, 14] (fun _ => rfl) (by decide) rfl hl.1 rfl (Nat.le_of_ble_eq_true rfl) dL_law_201 ⟨Nat.le_of_ble_eq_true rfl, Nat.le_of_ble_eq_true rfl⟩ (fun u2 H locs e2 hP hD hKn hS => ?_)
  have hP : va_P D vwCl [(hd, .inr (0, [.ref f1, .ref f2, .ref al, .ref ar, .ref az, .ref ax, .ref ay, .int (nI u1.1), .int (nI u1.2)])), (f1, .inr (1, [.long (lN nt_P), .ref a1, .ref b1])), (f2, .inr (1, [.long (lN nt_Q), .ref a2, .ref b2])), (al, .inl (cI, 256, .inl lf)), (ar, .inl (cI, 256, .inl rf)), (az, .inl (cJ, 512, .inr (.inl Zf))), (ax, .inl (cJ, 512, .inr (.inl Xf))), (ay, .inl (cJ, 512, .inr (.inl Yf))), (a1, .inl (cJ, 512, .inr (.inl A1))), (b1, .inl (cJ, 512, .inr (.inl B1))), (a2, .inl (cJ, 512, .inr (.inl A2))), (b2, .inl (cJ, 512, .inr (.inl B2))), (hm, .inr (2, [.ref ma, .ref mb, .ref mz, .int (nI u2.1), .int (nI u2.2)])), (ma, .inl (cI, 256, .inl lf)), (mb, .inl (cI, 256, .inl rf)), (mz, .inl (cJ, 512, .inr (.inl Mz)))] H := hP
  have hD : va_D A [(hd, .inr (0, [.ref f1, .ref f2, .ref al, .ref ar, .ref az, .ref ax, .ref ay, .int (nI u1.1), .int (nI u1.2)])), (f1, .inr (1, [.long (lN nt_P), .ref a1, .ref b1])), (f2, .inr (1, [.long (lN nt_Q), .ref a2, .ref b2])), (al, .inl (cI, 256, .inl lf)), (ar, .inl (cI, 256, .inl rf)), (az, .inl (cJ, 512, .inr (.inl Zf))), (ax, .inl (cJ, 512, .inr (.inl Xf))), (ay, .inl (cJ, 512, .inr (.inl Yf))), (a1, .inl (cJ, 512, .inr (.inl A1))), (b1, .inl (cJ, 512, .inr (.inl B1))), (a2, .inl (cJ, 512, .inr (.inl A2))), (b2, .inl (cJ, 512, .inr (.inl B2))), (hm, .inr (2, [.ref ma, .ref mb, .ref mz, .int (nI u2.1), .int (nI u2.2)])), (ma, .inl (cI, 256, .inl lf)), (mb, .inl (cI, 256, .inl rf)), (mz, .inl (cJ, 512, .inr (.inl Mz)))] := hD
  have q : u1 = u2 := e1.trans e2.symm
  rw [← q] at hP hD
  have q3 : u1.1 ≤ 256 ∧ u1.2 ≤ 256 := by
    rw [show u1 = _ from e1]
    split
    · exact ⟨Nat.zero_le 256, hn2⟩
    · exact ⟨hn1, Nat.zero_le 256⟩
  refine lv_goto (tgt := 295) hx hb dL_law_204 (by decide) ?_
  exact kk H locs ⟨u1.1, u1.2, lf, rf, Zf, Xf, Yf, A1, B1, A2, B2, Mz, q3.1, q3.2, hsl, hsr, hz, hP, hD, hS⟩
set_option maxHeartbeats 4000000 in
set_option maxRecDepth 100000 in
theorem law_c3 {p : Program} {l : Launch} {e : Env} {s : State} {m : MethodId} {below : List Frame} {meth : Method} {c : Code} {Q : State → Prop} {D : va_G} {A : Nat → Prop} {sb L : Nat} {xs : Nat → Int32} {cI cJ : ClassId} {hd f1 f2 al ar az ax ay a1 b1 a2 b2 hm ma mb mz : Nat} (C : k_C p s m #[Value.ref sb] meth c ⟨R_law, meth.name, ""⟩ code 4 ret) (hX : va_X sb L xs s s.heap) (hbl : sb < s.heap.size) (hbA : ¬ A sb) (hA : ∀ q : Nat, s.heap.size ≤ q → A q) (hK : va_K D vwCl [(cI, .int), (cJ, .long)] s) (hL : L ≤ 320) {i : Nat} (hi : i + 5 ≤ L) {H : Heap} {locs : List Loc} {ls : Array Slot} (hl : lv_has ls 4 [(0, .ref sb), (1, .ref hd), (2, .ref hm), (3, .int (nI i))]) (hI : lk_I D A s cI cJ hd f1 f2 al ar az ax ay a1 b1 a2 b2 hm ma mb mz H locs)
    (kk : ∀ (H : Heap) (locs : List Loc), lk_I D A s cI cJ hd f1 f2 al ar az ax ay a1 b1 a2 b2 hm ma mb mz H locs → W p l e room_1 s m #[Value.ref sb] below meth c H locs 600000 7290000 Q (F0 m 295 ls [])) : W p l e room_1 s m #[Value.ref sb] below meth c H locs 600000 7290000 Q (F0 m 207 ls []) := by
  obtain ⟨hx, hb, hml, hr, hlocks, hown, hin, hts⟩ := id C
  have hown : s.vm.findClass R_law = some m.cls := hown
  obtain ⟨nl, nr, lf, rf, Zf, Xf, Yf, A1, B1, A2, B2, Mz, hn1, hn2, hsl, hsr, hz, hP, hD, hS⟩ := hI
  refine lv_aload_n hx hb dL_law_207 rfl (lv_at hl 1 rfl) ?_
  refine k_cVv (own := R_law) (wr := [(hm, .inr (2, [.ref ma, .ref mb, .ref mz, .int (nI nl), .int (nI nr)])), (ma, .inl (cI, 256, .inl lf)), (mb, .inl (cI, 256, .inl rf)), (mz, .inl (cJ, 512, .inr (.inl Mz)))]) (wo := fun u1 => [(hd, .inr (0, [.ref f1, .ref f2, .ref al, .ref ar, .ref az, .ref ax, .ref ay, .int (nI nl), .int (nI nr)])), (f1, .inr (1, [.long (lN nt_P), .ref a1, .ref b1])), (f2, .inr (1, [.long (lN nt_Q), .ref a2, .ref b2])), (al, .inl (cI, 256, .inl lf)), (ar, .inl (cI, 256, .inl rf)), (az, .inl (cJ, 512, .inr (.inl u1.1))), (ax, .inl (cJ, 512, .inr (.inl u1.2.1))), (ay, .inl (cJ, 512, .inr (.inl u1.2.2.1))), (a1, .inl (cJ, 512, .inr (.inl u1.2.2.2.1))), (b1, .inl (cJ, 512, .inr (.inl u1.2.2.2.2.1))), (a2, .inl (cJ, 512, .inr (.inl u1.2.2.2.2.2.1))), (b2, .inl (cJ, 512, .inr (.inl u1.2.2.2.2.2.2))), (hm, .inr (2, [.ref ma, .ref mb, .ref mz, .int (nI nl), .int (nI nr)])), (ma, .inl (cI, 256, .inl lf)), (mb, .inl (cI, 256, .inl rf)), (mz, .inl (cJ, 512, .inr (.inl Mz)))]) C rfl (m_product l D hd f1 f2 al ar az ax ay nl nr a1 b1 a2 b2 cI cJ lf rf Zf Xf Yf A1 B1 A2 B2 hn1 hn2 hsl hsr) (cwV 0 hts (lw_V q83 q84 q85 q8 q86) rfl rfl rfl (by decide +kernel) ⟨Nat.le_of_ble_eq_true rfl, Nat.le_of_ble_eq_true rfl⟩) hK hP hD hS hA 0 0 rfl rfl rfl [0, 1] rfl [0, 1, 2, 3, 4, 5, 6, 7, 8, 9, 10, 11] [12, 13, 14, 15] rfl (by decide) rfl (by decide) (by decide) [4, 5, 6, 7, 8, 9, 10, 11, 12, 13, 14, 15, 0, 1, 2, 3] (fun _ => rfl) (by decide) rfl hl.1 rfl (Nat.le_of_ble_eq_true rfl) dL_law_208 ⟨Nat.le_of_ble_eq_true rfl, Nat.le_of_ble_eq_true rfl⟩ (fun u1 H locs e1 hP hD hKn hS => ?_)
  have hP : va_P D vwCl [(hd, .inr (0, [.ref f1, .ref f2, .ref al, .ref ar, .ref az, .ref ax, .ref ay, .int (nI nl), .int (nI nr)])), (f1, .inr (1, [.long (lN nt_P), .ref a1, .ref b1])), (f2, .inr (1, [.long (lN nt_Q), .ref a2, .ref b2])), (al, .inl (cI, 256, .inl lf)), (ar, .inl (cI, 256, .inl rf)), (az, .inl (cJ, 512, .inr (.inl u1.1))), (ax, .inl (cJ, 512, .inr (.inl u1.2.1))), (ay, .inl (cJ, 512, .inr (.inl u1.2.2.1))), (a1, .inl (cJ, 512, .inr (.inl u1.2.2.2.1))), (b1, .inl (cJ, 512, .inr (.inl u1.2.2.2.2.1))), (a2, .inl (cJ, 512, .inr (.inl u1.2.2.2.2.2.1))), (b2, .inl (cJ, 512, .inr (.inl u1.2.2.2.2.2.2))), (hm, .inr (2, [.ref ma, .ref mb, .ref mz, .int (nI nl), .int (nI nr)])), (ma, .inl (cI, 256, .inl lf)), (mb, .inl (cI, 256, .inl rf)), (mz, .inl (cJ, 512, .inr (.inl Mz)))] H := hP
  have hD : va_D A [(hd, .inr (0, [.ref f1, .ref f2, .ref al, .ref ar, .ref az, .ref ax, .ref ay, .int (nI nl), .int (nI nr)])), (f1, .inr (1, [.long (lN nt_P), .ref a1, .ref b1])), (f2, .inr (1, [.long (lN nt_Q), .ref a2, .ref b2])), (al, .inl (cI, 256, .inl lf)), (ar, .inl (cI, 256, .inl rf)), (az, .inl (cJ, 512, .inr (.inl u1.1))), (ax, .inl (cJ, 512, .inr (.inl u1.2.1))), (ay, .inl (cJ, 512, .inr (.inl u1.2.2.1))), (a1, .inl (cJ, 512, .inr (.inl u1.2.2.2.1))), (b1, .inl (cJ, 512, .inr (.inl u1.2.2.2.2.1))), (a2, .inl (cJ, 512, .inr (.inl u1.2.2.2.2.2.1))), (b2, .inl (cJ, 512, .inr (.inl u1.2.2.2.2.2.2))), (hm, .inr (2, [.ref ma, .ref mb, .ref mz, .int (nI nl), .int (nI nr)])), (ma, .inl (cI, 256, .inl lf)), (mb, .inl (cI, 256, .inl rf)), (mz, .inl (cJ, 512, .inr (.inl Mz)))] := hD
  refine lv_aload_n hx hb dL_law_211 rfl (lv_at hl 2 rfl) ?_
  refine k_cVv (own := R_law) (wr := [(hd, .inr (0, [.ref f1, .ref f2, .ref al, .ref ar, .ref az, .ref ax, .ref ay, .int (nI nl), .int (nI nr)])), (f1, .inr (1, [.long (lN nt_P), .ref a1, .ref b1])), (f2, .inr (1, [.long (lN nt_Q), .ref a2, .ref b2])), (al, .inl (cI, 256, .inl lf)), (ar, .inl (cI, 256, .inl rf)), (az, .inl (cJ, 512, .inr (.inl u1.1))), (ax, .inl (cJ, 512, .inr (.inl u1.2.1))), (ay, .inl (cJ, 512, .inr (.inl u1.2.2.1))), (a1, .inl (cJ, 512, .inr (.inl u1.2.2.2.1))), (b1, .inl (cJ, 512, .inr (.inl u1.2.2.2.2.1))), (a2, .inl (cJ, 512, .inr (.inl u1.2.2.2.2.2.1))), (b2, .inl (cJ, 512, .inr (.inl u1.2.2.2.2.2.2)))]) (wo := fun u2 => [(hd, .inr (0, [.ref f1, .ref f2, .ref al, .ref ar, .ref az, .ref ax, .ref ay, .int (nI nl), .int (nI nr)])), (f1, .inr (1, [.long (lN nt_P), .ref a1, .ref b1])), (f2, .inr (1, [.long (lN nt_Q), .ref a2, .ref b2])), (al, .inl (cI, 256, .inl lf)), (ar, .inl (cI, 256, .inl rf)), (az, .inl (cJ, 512, .inr (.inl u1.1))), (ax, .inl (cJ, 512, .inr (.inl u1.2.1))), (ay, .inl (cJ, 512, .inr (.inl u1.2.2.1))), (a1, .inl (cJ, 512, .inr (.inl u1.2.2.2.1))), (b1, .inl (cJ, 512, .inr (.inl u1.2.2.2.2.1))), (a2, .inl (cJ, 512, .inr (.inl u1.2.2.2.2.2.1))), (b2, .inl (cJ, 512, .inr (.inl u1.2.2.2.2.2.2))), (hm, .inr (2, [.ref ma, .ref mb, .ref mz, .int (nI nl), .int (nI nr)])), (ma, .inl (cI, 256, .inl lf)), (mb, .inl (cI, 256, .inl rf)), (mz, .inl (cJ, 512, .inr (.inl u2)))]) C rfl (m_mproduct l D hm ma mb mz nl nr cI cJ lf rf Mz hn1 hn2) (cwV 0 hts (lw_V q188 q189 q190 q10 q191) rfl rfl rfl (by decide +kernel) ⟨Nat.le_of_ble_eq_true rfl, Nat.le_of_ble_eq_true rfl⟩) hK hP hD hS hA 0 2 rfl rfl rfl [0, 1] rfl [12, 13, 14, 15] [0, 1, 2, 3, 4, 5, 6, 7, 8, 9, 10, 11] rfl (by decide) rfl (by decide) (by decide) [0, 1, 2, 3, 4, 5, 6, 7, 8, 9, 10, 11, 12, 13, 14, 15] (fun _ => rfl) (by decide) rfl hl.1 rfl (Nat.le_of_ble_eq_true rfl) dL_law_212 ⟨Nat.le_of_ble_eq_true rfl, Nat.le_of_ble_eq_true rfl⟩ (fun u2 H locs e2 hP hD hKn hS => ?_)
  have hP : va_P D vwCl [(hd, .inr (0, [.ref f1, .ref f2, .ref al, .ref ar, .ref az, .ref ax, .ref ay, .int (nI nl), .int (nI nr)])), (f1, .inr (1, [.long (lN nt_P), .ref a1, .ref b1])), (f2, .inr (1, [.long (lN nt_Q), .ref a2, .ref b2])), (al, .inl (cI, 256, .inl lf)), (ar, .inl (cI, 256, .inl rf)), (az, .inl (cJ, 512, .inr (.inl u1.1))), (ax, .inl (cJ, 512, .inr (.inl u1.2.1))), (ay, .inl (cJ, 512, .inr (.inl u1.2.2.1))), (a1, .inl (cJ, 512, .inr (.inl u1.2.2.2.1))), (b1, .inl (cJ, 512, .inr (.inl u1.2.2.2.2.1))), (a2, .inl (cJ, 512, .inr (.inl u1.2.2.2.2.2.1))), (b2, .inl (cJ, 512, .inr (.inl u1.2.2.2.2.2.2))), (hm, .inr (2, [.ref ma, .ref mb, .ref mz, .int (nI nl), .int (nI nr)])), (ma, .inl (cI, 256, .inl lf)), (mb, .inl (cI, 256, .inl rf)), (mz, .inl (cJ, 512, .inr (.inl u2)))] H := hP
  have hD : va_D A [(hd, .inr (0, [.ref f1, .ref f2, .ref al, .ref ar, .ref az, .ref ax, .ref ay, .int (nI nl), .int (nI nr)])), (f1, .inr (1, [.long (lN nt_P), .ref a1, .ref b1])), (f2, .inr (1, [.long (lN nt_Q), .ref a2, .ref b2])), (al, .inl (cI, 256, .inl lf)), (ar, .inl (cI, 256, .inl rf)), (az, .inl (cJ, 512, .inr (.inl u1.1))), (ax, .inl (cJ, 512, .inr (.inl u1.2.1))), (ay, .inl (cJ, 512, .inr (.inl u1.2.2.1))), (a1, .inl (cJ, 512, .inr (.inl u1.2.2.2.1))), (b1, .inl (cJ, 512, .inr (.inl u1.2.2.2.2.1))), (a2, .inl (cJ, 512, .inr (.inl u1.2.2.2.2.2.1))), (b2, .inl (cJ, 512, .inr (.inl u1.2.2.2.2.2.2))), (hm, .inr (2, [.ref ma, .ref mb, .ref mz, .int (nI nl), .int (nI nr)])), (ma, .inl (cI, 256, .inl lf)), (mb, .inl (cI, 256, .inl rf)), (mz, .inl (cJ, 512, .inr (.inl u2)))] := hD
  refine lv_goto (tgt := 295) hx hb dL_law_215 (by decide) ?_
  exact kk H locs ⟨nl, nr, lf, rf, u1.1, u1.2.1, u1.2.2.1, u1.2.2.2.1, u1.2.2.2.2.1, u1.2.2.2.2.2.1, u1.2.2.2.2.2.2, u2, hn1, hn2, hsl, hsr, fun j hj => (e1 j hj).trans (e2 j hj).symm, hP, hD, hS⟩
set_option maxHeartbeats 4000000 in
set_option maxRecDepth 100000 in
theorem law_c4 {p : Program} {l : Launch} {e : Env} {s : State} {m : MethodId} {below : List Frame} {meth : Method} {c : Code} {Q : State → Prop} {D : va_G} {A : Nat → Prop} {sb L : Nat} {xs : Nat → Int32} {cI cJ : ClassId} {hd f1 f2 al ar az ax ay a1 b1 a2 b2 hm ma mb mz : Nat} (C : k_C p s m #[Value.ref sb] meth c ⟨R_law, meth.name, ""⟩ code 4 ret) (hX : va_X sb L xs s s.heap) (hbl : sb < s.heap.size) (hbA : ¬ A sb) (hA : ∀ q : Nat, s.heap.size ≤ q → A q) (hK : va_K D vwCl [(cI, .int), (cJ, .long)] s) (hL : L ≤ 320) {i : Nat} (hi : i + 5 ≤ L) {H : Heap} {locs : List Loc} {ls : Array Slot} (hl : lv_has ls 4 [(0, .ref sb), (1, .ref hd), (2, .ref hm), (3, .int (nI i))]) (hI : lk_I D A s cI cJ hd f1 f2 al ar az ax ay a1 b1 a2 b2 hm ma mb mz H locs)
    (kk : ∀ (H : Heap) (locs : List Loc), lk_I D A s cI cJ hd f1 f2 al ar az ax ay a1 b1 a2 b2 hm ma mb mz H locs → W p l e room_1 s m #[Value.ref sb] below meth c H locs 600000 7290000 Q (F0 m 295 ls [])) : W p l e room_1 s m #[Value.ref sb] below meth c H locs 600000 7290000 Q (F0 m 218 ls []) := by
  obtain ⟨hx, hb, hml, hr, hlocks, hown, hin, hts⟩ := id C
  have hown : s.vm.findClass R_law = some m.cls := hown
  obtain ⟨nl, nr, lf, rf, Zf, Xf, Yf, A1, B1, A2, B2, Mz, hn1, hn2, hsl, hsr, hz, hP, hD, hS⟩ := hI
  refine lv_aload_n hx hb dL_law_218 rfl (lv_at hl 1 rfl) ?_
  refine lv_aload_n hx hb dL_law_219 rfl (lv_at hl 0 rfl) ?_
  refine lv_iload_n hx hb dL_law_220 rfl (lv_at hl 3 rfl) ?_
  refine lv_iconst (v := nI 1) hx hb dL_law_221 (by decide) ?_
  refine k_iadd hx hb dL_law_222  ?_
  refine k_sld hx hb hX hbl hbA hS (by omega) hL dL_law_223 ?_
  refine k_cVv (own := R_law) (wr := [(hm, .inr (2, [.ref ma, .ref mb, .ref mz, .int (nI nl), .int (nI nr)])), (ma, .inl (cI, 256, .inl lf)), (mb, .inl (cI, 256, .inl rf)), (mz, .inl (cJ, 512, .inr (.inl Mz)))]) (wo := fun u1 => [(hd, .inr (0, [.ref f1, .ref f2, .ref al, .ref ar, .ref az, .ref ax, .ref ay, .int (nI nl), .int (nI nr)])), (f1, .inr (1, [.long (lN nt_P), .ref a1, .ref b1])), (f2, .inr (1, [.long (lN nt_Q), .ref a2, .ref b2])), (al, .inl (cI, 256, .inl lf)), (ar, .inl (cI, 256, .inl rf)), (az, .inl (cJ, 512, .inr (.inl u1.1))), (ax, .inl (cJ, 512, .inr (.inl u1.2.1))), (ay, .inl (cJ, 512, .inr (.inl u1.2.2.1))), (a1, .inl (cJ, 512, .inr (.inl u1.2.2.2.1))), (b1, .inl (cJ, 512, .inr (.inl u1.2.2.2.2.1))), (a2, .inl (cJ, 512, .inr (.inl u1.2.2.2.2.2.1))), (b2, .inl (cJ, 512, .inr (.inl u1.2.2.2.2.2.2))), (hm, .inr (2, [.ref ma, .ref mb, .ref mz, .int (nI nl), .int (nI nr)])), (ma, .inl (cI, 256, .inl lf)), (mb, .inl (cI, 256, .inl rf)), (mz, .inl (cJ, 512, .inr (.inl Mz)))]) C rfl (m_circle l D hd f1 f2 al ar az ax ay nl nr a1 b1 a2 b2 cI cJ lf rf Zf Xf Yf A1 B1 A2 B2 hn1 hn2 hsl hsr (xs (i + 1))) (cwV 1 hts (lw_V q134 q135 q136 q8 q137) rfl rfl rfl (by decide +kernel) ⟨Nat.le_of_ble_eq_true rfl, Nat.le_of_ble_eq_true rfl⟩) hK hP hD hS hA 0 0 rfl rfl rfl [0, 1] rfl [0, 1, 2, 3, 4, 5, 6, 7, 8, 9, 10, 11] [12, 13, 14, 15] rfl (by decide) rfl (by decide) (by decide) [4, 5, 6, 7, 8, 9, 10, 11, 12, 13, 14, 15, 0, 1, 2, 3] (fun _ => rfl) (by decide) rfl hl.1 rfl (Nat.le_of_ble_eq_true rfl) dL_law_224 ⟨Nat.le_of_ble_eq_true rfl, Nat.le_of_ble_eq_true rfl⟩ (fun u1 H locs e1 hP hD hKn hS => ?_)
  have hP : va_P D vwCl [(hd, .inr (0, [.ref f1, .ref f2, .ref al, .ref ar, .ref az, .ref ax, .ref ay, .int (nI nl), .int (nI nr)])), (f1, .inr (1, [.long (lN nt_P), .ref a1, .ref b1])), (f2, .inr (1, [.long (lN nt_Q), .ref a2, .ref b2])), (al, .inl (cI, 256, .inl lf)), (ar, .inl (cI, 256, .inl rf)), (az, .inl (cJ, 512, .inr (.inl u1.1))), (ax, .inl (cJ, 512, .inr (.inl u1.2.1))), (ay, .inl (cJ, 512, .inr (.inl u1.2.2.1))), (a1, .inl (cJ, 512, .inr (.inl u1.2.2.2.1))), (b1, .inl (cJ, 512, .inr (.inl u1.2.2.2.2.1))), (a2, .inl (cJ, 512, .inr (.inl u1.2.2.2.2.2.1))), (b2, .inl (cJ, 512, .inr (.inl u1.2.2.2.2.2.2))), (hm, .inr (2, [.ref ma, .ref mb, .ref mz, .int (nI nl), .int (nI nr)])), (ma, .inl (cI, 256, .inl lf)), (mb, .inl (cI, 256, .inl rf)), (mz, .inl (cJ, 512, .inr (.inl Mz)))] H := hP
  have hD : va_D A [(hd, .inr (0, [.ref f1, .ref f2, .ref al, .ref ar, .ref az, .ref ax, .ref ay, .int (nI nl), .int (nI nr)])), (f1, .inr (1, [.long (lN nt_P), .ref a1, .ref b1])), (f2, .inr (1, [.long (lN nt_Q), .ref a2, .ref b2])), (al, .inl (cI, 256, .inl lf)), (ar, .inl (cI, 256, .inl rf)), (az, .inl (cJ, 512, .inr (.inl u1.1))), (ax, .inl (cJ, 512, .inr (.inl u1.2.1))), (ay, .inl (cJ, 512, .inr (.inl u1.2.2.1))), (a1, .inl (cJ, 512, .inr (.inl u1.2.2.2.1))), (b1, .inl (cJ, 512, .inr (.inl u1.2.2.2.2.1))), (a2, .inl (cJ, 512, .inr (.inl u1.2.2.2.2.2.1))), (b2, .inl (cJ, 512, .inr (.inl u1.2.2.2.2.2.2))), (hm, .inr (2, [.ref ma, .ref mb, .ref mz, .int (nI nl), .int (nI nr)])), (ma, .inl (cI, 256, .inl lf)), (mb, .inl (cI, 256, .inl rf)), (mz, .inl (cJ, 512, .inr (.inl Mz)))] := hD
  refine lv_aload_n hx hb dL_law_227 rfl (lv_at hl 2 rfl) ?_
  refine lv_aload_n hx hb dL_law_228 rfl (lv_at hl 0 rfl) ?_
  refine lv_iload_n hx hb dL_law_229 rfl (lv_at hl 3 rfl) ?_
  refine lv_iconst (v := nI 1) hx hb dL_law_230 (by decide) ?_
  refine k_iadd hx hb dL_law_231  ?_
  refine k_sld hx hb hX hbl hbA hS (by omega) hL dL_law_232 ?_
  refine k_cVv (own := R_law) (wr := [(hd, .inr (0, [.ref f1, .ref f2, .ref al, .ref ar, .ref az, .ref ax, .ref ay, .int (nI nl), .int (nI nr)])), (f1, .inr (1, [.long (lN nt_P), .ref a1, .ref b1])), (f2, .inr (1, [.long (lN nt_Q), .ref a2, .ref b2])), (al, .inl (cI, 256, .inl lf)), (ar, .inl (cI, 256, .inl rf)), (az, .inl (cJ, 512, .inr (.inl u1.1))), (ax, .inl (cJ, 512, .inr (.inl u1.2.1))), (ay, .inl (cJ, 512, .inr (.inl u1.2.2.1))), (a1, .inl (cJ, 512, .inr (.inl u1.2.2.2.1))), (b1, .inl (cJ, 512, .inr (.inl u1.2.2.2.2.1))), (a2, .inl (cJ, 512, .inr (.inl u1.2.2.2.2.2.1))), (b2, .inl (cJ, 512, .inr (.inl u1.2.2.2.2.2.2)))]) (wo := fun u2 => [(hd, .inr (0, [.ref f1, .ref f2, .ref al, .ref ar, .ref az, .ref ax, .ref ay, .int (nI nl), .int (nI nr)])), (f1, .inr (1, [.long (lN nt_P), .ref a1, .ref b1])), (f2, .inr (1, [.long (lN nt_Q), .ref a2, .ref b2])), (al, .inl (cI, 256, .inl lf)), (ar, .inl (cI, 256, .inl rf)), (az, .inl (cJ, 512, .inr (.inl u1.1))), (ax, .inl (cJ, 512, .inr (.inl u1.2.1))), (ay, .inl (cJ, 512, .inr (.inl u1.2.2.1))), (a1, .inl (cJ, 512, .inr (.inl u1.2.2.2.1))), (b1, .inl (cJ, 512, .inr (.inl u1.2.2.2.2.1))), (a2, .inl (cJ, 512, .inr (.inl u1.2.2.2.2.2.1))), (b2, .inl (cJ, 512, .inr (.inl u1.2.2.2.2.2.2))), (hm, .inr (2, [.ref ma, .ref mb, .ref mz, .int (nI nl), .int (nI nr)])), (ma, .inl (cI, 256, .inl lf)), (mb, .inl (cI, 256, .inl rf)), (mz, .inl (cJ, 512, .inr (.inl u2)))]) C rfl (m_mcircle l D hm ma mb mz nl nr cI cJ lf rf Mz hn1 hn2 (xs (i + 1))) (cwV 1 hts (lw_V q196 q197 q198 q10 q199) rfl rfl rfl (by decide +kernel) ⟨Nat.le_of_ble_eq_true rfl, Nat.le_of_ble_eq_true rfl⟩) hK hP hD hS hA 0 2 rfl rfl rfl [0, 1] rfl [12, 13, 14, 15] [0, 1, 2, 3, 4, 5, 6, 7, 8, 9, 10, 11] rfl (by decide) rfl (by decide) (by decide) [0, 1, 2, 3, 4, 5, 6, 7, 8, 9, 10, 11, 12, 13, 14, 15] (fun _ => rfl) (by decide) rfl hl.1 rfl (Nat.le_of_ble_eq_true rfl) dL_law_233 ⟨Nat.le_of_ble_eq_true rfl, Nat.le_of_ble_eq_true rfl⟩ (fun u2 H locs e2 hP hD hKn hS => ?_)
  have hP : va_P D vwCl [(hd, .inr (0, [.ref f1, .ref f2, .ref al, .ref ar, .ref az, .ref ax, .ref ay, .int (nI nl), .int (nI nr)])), (f1, .inr (1, [.long (lN nt_P), .ref a1, .ref b1])), (f2, .inr (1, [.long (lN nt_Q), .ref a2, .ref b2])), (al, .inl (cI, 256, .inl lf)), (ar, .inl (cI, 256, .inl rf)), (az, .inl (cJ, 512, .inr (.inl u1.1))), (ax, .inl (cJ, 512, .inr (.inl u1.2.1))), (ay, .inl (cJ, 512, .inr (.inl u1.2.2.1))), (a1, .inl (cJ, 512, .inr (.inl u1.2.2.2.1))), (b1, .inl (cJ, 512, .inr (.inl u1.2.2.2.2.1))), (a2, .inl (cJ, 512, .inr (.inl u1.2.2.2.2.2.1))), (b2, .inl (cJ, 512, .inr (.inl u1.2.2.2.2.2.2))), (hm, .inr (2, [.ref ma, .ref mb, .ref mz, .int (nI nl), .int (nI nr)])), (ma, .inl (cI, 256, .inl lf)), (mb, .inl (cI, 256, .inl rf)), (mz, .inl (cJ, 512, .inr (.inl u2)))] H := hP
  have hD : va_D A [(hd, .inr (0, [.ref f1, .ref f2, .ref al, .ref ar, .ref az, .ref ax, .ref ay, .int (nI nl), .int (nI nr)])), (f1, .inr (1, [.long (lN nt_P), .ref a1, .ref b1])), (f2, .inr (1, [.long (lN nt_Q), .ref a2, .ref b2])), (al, .inl (cI, 256, .inl lf)), (ar, .inl (cI, 256, .inl rf)), (az, .inl (cJ, 512, .inr (.inl u1.1))), (ax, .inl (cJ, 512, .inr (.inl u1.2.1))), (ay, .inl (cJ, 512, .inr (.inl u1.2.2.1))), (a1, .inl (cJ, 512, .inr (.inl u1.2.2.2.1))), (b1, .inl (cJ, 512, .inr (.inl u1.2.2.2.2.1))), (a2, .inl (cJ, 512, .inr (.inl u1.2.2.2.2.2.1))), (b2, .inl (cJ, 512, .inr (.inl u1.2.2.2.2.2.2))), (hm, .inr (2, [.ref ma, .ref mb, .ref mz, .int (nI nl), .int (nI nr)])), (ma, .inl (cI, 256, .inl lf)), (mb, .inl (cI, 256, .inl rf)), (mz, .inl (cJ, 512, .inr (.inl u2)))] := hD
  refine lv_goto (tgt := 295) hx hb dL_law_236 (by decide) ?_
  exact kk H locs ⟨nl, nr, lf, rf, u1.1, u1.2.1, u1.2.2.1, u1.2.2.2.1, u1.2.2.2.2.1, u1.2.2.2.2.2.1, u1.2.2.2.2.2.2, u2, hn1, hn2, hsl, hsr, fun j hj => (e1 j hj).trans (e2 j hj).symm, hP, hD, hS⟩
set_option maxHeartbeats 4000000 in
set_option maxRecDepth 100000 in
theorem law_c5 {p : Program} {l : Launch} {e : Env} {s : State} {m : MethodId} {below : List Frame} {meth : Method} {c : Code} {Q : State → Prop} {D : va_G} {A : Nat → Prop} {sb L : Nat} {xs : Nat → Int32} {cI cJ : ClassId} {hd f1 f2 al ar az ax ay a1 b1 a2 b2 hm ma mb mz : Nat} (C : k_C p s m #[Value.ref sb] meth c ⟨R_law, meth.name, ""⟩ code 4 ret) (hX : va_X sb L xs s s.heap) (hbl : sb < s.heap.size) (hbA : ¬ A sb) (hA : ∀ q : Nat, s.heap.size ≤ q → A q) (hK : va_K D vwCl [(cI, .int), (cJ, .long)] s) (hL : L ≤ 320) {i : Nat} (hi : i + 5 ≤ L) {H : Heap} {locs : List Loc} {ls : Array Slot} (hl : lv_has ls 4 [(0, .ref sb), (1, .ref hd), (2, .ref hm), (3, .int (nI i))]) (hI : lk_I D A s cI cJ hd f1 f2 al ar az ax ay a1 b1 a2 b2 hm ma mb mz H locs)
    (kk : ∀ (H : Heap) (locs : List Loc), lk_I D A s cI cJ hd f1 f2 al ar az ax ay a1 b1 a2 b2 hm ma mb mz H locs → W p l e room_1 s m #[Value.ref sb] below meth c H locs 600000 7290000 Q (F0 m 295 ls [])) : W p l e room_1 s m #[Value.ref sb] below meth c H locs 600000 7290000 Q (F0 m 239 ls []) := by
  obtain ⟨hx, hb, hml, hr, hlocks, hown, hin, hts⟩ := id C
  have hown : s.vm.findClass R_law = some m.cls := hown
  obtain ⟨nl, nr, lf, rf, Zf, Xf, Yf, A1, B1, A2, B2, Mz, hn1, hn2, hsl, hsr, hz, hP, hD, hS⟩ := hI
  refine lv_aload_n hx hb dL_law_239 rfl (lv_at hl 1 rfl) ?_
  refine lv_aload_n hx hb dL_law_240 rfl (lv_at hl 0 rfl) ?_
  refine lv_iload_n hx hb dL_law_241 rfl (lv_at hl 3 rfl) ?_
  refine lv_iconst (v := nI 1) hx hb dL_law_242 (by decide) ?_
  refine k_iadd hx hb dL_law_243  ?_
  refine k_sld hx hb hX hbl hbA hS (by omega) hL dL_law_244 ?_
  refine k_cVv (own := R_law) (wr := [(hm, .inr (2, [.ref ma, .ref mb, .ref mz, .int (nI nl), .int (nI nr)])), (ma, .inl (cI, 256, .inl lf)), (mb, .inl (cI, 256, .inl rf)), (mz, .inl (cJ, 512, .inr (.inl Mz)))]) (wo := fun u1 => [(hd, .inr (0, [.ref f1, .ref f2, .ref al, .ref ar, .ref az, .ref ax, .ref ay, .int (nI nl), .int (nI nr)])), (f1, .inr (1, [.long (lN nt_P), .ref a1, .ref b1])), (f2, .inr (1, [.long (lN nt_Q), .ref a2, .ref b2])), (al, .inl (cI, 256, .inl lf)), (ar, .inl (cI, 256, .inl rf)), (az, .inl (cJ, 512, .inr (.inl u1.1))), (ax, .inl (cJ, 512, .inr (.inl u1.2.1))), (ay, .inl (cJ, 512, .inr (.inl u1.2.2.1))), (a1, .inl (cJ, 512, .inr (.inl u1.2.2.2.1))), (b1, .inl (cJ, 512, .inr (.inl u1.2.2.2.2.1))), (a2, .inl (cJ, 512, .inr (.inl u1.2.2.2.2.2.1))), (b2, .inl (cJ, 512, .inr (.inl u1.2.2.2.2.2.2))), (hm, .inr (2, [.ref ma, .ref mb, .ref mz, .int (nI nl), .int (nI nr)])), (ma, .inl (cI, 256, .inl lf)), (mb, .inl (cI, 256, .inl rf)), (mz, .inl (cJ, 512, .inr (.inl Mz)))]) C rfl (m_twisted l D hd f1 f2 al ar az ax ay nl nr a1 b1 a2 b2 cI cJ lf rf Zf Xf Yf A1 B1 A2 B2 hn1 hn2 hsl hsr (xs (i + 1))) (cwV 1 hts (lw_V q142 q143 q144 q8 q145) rfl rfl rfl (by decide +kernel) ⟨Nat.le_of_ble_eq_true rfl, Nat.le_of_ble_eq_true rfl⟩) hK hP hD hS hA 0 0 rfl rfl rfl [0, 1] rfl [0, 1, 2, 3, 4, 5, 6, 7, 8, 9, 10, 11] [12, 13, 14, 15] rfl (by decide) rfl (by decide) (by decide) [4, 5, 6, 7, 8, 9, 10, 11, 12, 13, 14, 15, 0, 1, 2, 3] (fun _ => rfl) (by decide) rfl hl.1 rfl (Nat.le_of_ble_eq_true rfl) dL_law_245 ⟨Nat.le_of_ble_eq_true rfl, Nat.le_of_ble_eq_true rfl⟩ (fun u1 H locs e1 hP hD hKn hS => ?_)
  have hP : va_P D vwCl [(hd, .inr (0, [.ref f1, .ref f2, .ref al, .ref ar, .ref az, .ref ax, .ref ay, .int (nI nl), .int (nI nr)])), (f1, .inr (1, [.long (lN nt_P), .ref a1, .ref b1])), (f2, .inr (1, [.long (lN nt_Q), .ref a2, .ref b2])), (al, .inl (cI, 256, .inl lf)), (ar, .inl (cI, 256, .inl rf)), (az, .inl (cJ, 512, .inr (.inl u1.1))), (ax, .inl (cJ, 512, .inr (.inl u1.2.1))), (ay, .inl (cJ, 512, .inr (.inl u1.2.2.1))), (a1, .inl (cJ, 512, .inr (.inl u1.2.2.2.1))), (b1, .inl (cJ, 512, .inr (.inl u1.2.2.2.2.1))), (a2, .inl (cJ, 512, .inr (.inl u1.2.2.2.2.2.1))), (b2, .inl (cJ, 512, .inr (.inl u1.2.2.2.2.2.2))), (hm, .inr (2, [.ref ma, .ref mb, .ref mz, .int (nI nl), .int (nI nr)])), (ma, .inl (cI, 256, .inl lf)), (mb, .inl (cI, 256, .inl rf)), (mz, .inl (cJ, 512, .inr (.inl Mz)))] H := hP
  have hD : va_D A [(hd, .inr (0, [.ref f1, .ref f2, .ref al, .ref ar, .ref az, .ref ax, .ref ay, .int (nI nl), .int (nI nr)])), (f1, .inr (1, [.long (lN nt_P), .ref a1, .ref b1])), (f2, .inr (1, [.long (lN nt_Q), .ref a2, .ref b2])), (al, .inl (cI, 256, .inl lf)), (ar, .inl (cI, 256, .inl rf)), (az, .inl (cJ, 512, .inr (.inl u1.1))), (ax, .inl (cJ, 512, .inr (.inl u1.2.1))), (ay, .inl (cJ, 512, .inr (.inl u1.2.2.1))), (a1, .inl (cJ, 512, .inr (.inl u1.2.2.2.1))), (b1, .inl (cJ, 512, .inr (.inl u1.2.2.2.2.1))), (a2, .inl (cJ, 512, .inr (.inl u1.2.2.2.2.2.1))), (b2, .inl (cJ, 512, .inr (.inl u1.2.2.2.2.2.2))), (hm, .inr (2, [.ref ma, .ref mb, .ref mz, .int (nI nl), .int (nI nr)])), (ma, .inl (cI, 256, .inl lf)), (mb, .inl (cI, 256, .inl rf)), (mz, .inl (cJ, 512, .inr (.inl Mz)))] := hD
  refine lv_aload_n hx hb dL_law_248 rfl (lv_at hl 2 rfl) ?_
  refine lv_aload_n hx hb dL_law_249 rfl (lv_at hl 0 rfl) ?_
  refine lv_iload_n hx hb dL_law_250 rfl (lv_at hl 3 rfl) ?_
  refine lv_iconst (v := nI 1) hx hb dL_law_251 (by decide) ?_
  refine k_iadd hx hb dL_law_252  ?_
  refine k_sld hx hb hX hbl hbA hS (by omega) hL dL_law_253 ?_
  refine k_cVv (own := R_law) (wr := [(hd, .inr (0, [.ref f1, .ref f2, .ref al, .ref ar, .ref az, .ref ax, .ref ay, .int (nI nl), .int (nI nr)])), (f1, .inr (1, [.long (lN nt_P), .ref a1, .ref b1])), (f2, .inr (1, [.long (lN nt_Q), .ref a2, .ref b2])), (al, .inl (cI, 256, .inl lf)), (ar, .inl (cI, 256, .inl rf)), (az, .inl (cJ, 512, .inr (.inl u1.1))), (ax, .inl (cJ, 512, .inr (.inl u1.2.1))), (ay, .inl (cJ, 512, .inr (.inl u1.2.2.1))), (a1, .inl (cJ, 512, .inr (.inl u1.2.2.2.1))), (b1, .inl (cJ, 512, .inr (.inl u1.2.2.2.2.1))), (a2, .inl (cJ, 512, .inr (.inl u1.2.2.2.2.2.1))), (b2, .inl (cJ, 512, .inr (.inl u1.2.2.2.2.2.2)))]) (wo := fun u2 => [(hd, .inr (0, [.ref f1, .ref f2, .ref al, .ref ar, .ref az, .ref ax, .ref ay, .int (nI nl), .int (nI nr)])), (f1, .inr (1, [.long (lN nt_P), .ref a1, .ref b1])), (f2, .inr (1, [.long (lN nt_Q), .ref a2, .ref b2])), (al, .inl (cI, 256, .inl lf)), (ar, .inl (cI, 256, .inl rf)), (az, .inl (cJ, 512, .inr (.inl u1.1))), (ax, .inl (cJ, 512, .inr (.inl u1.2.1))), (ay, .inl (cJ, 512, .inr (.inl u1.2.2.1))), (a1, .inl (cJ, 512, .inr (.inl u1.2.2.2.1))), (b1, .inl (cJ, 512, .inr (.inl u1.2.2.2.2.1))), (a2, .inl (cJ, 512, .inr (.inl u1.2.2.2.2.2.1))), (b2, .inl (cJ, 512, .inr (.inl u1.2.2.2.2.2.2))), (hm, .inr (2, [.ref ma, .ref mb, .ref mz, .int (nI nl), .int (nI nr)])), (ma, .inl (cI, 256, .inl lf)), (mb, .inl (cI, 256, .inl rf)), (mz, .inl (cJ, 512, .inr (.inl u2)))]) C rfl (m_mtwisted l D hm ma mb mz nl nr cI cJ lf rf Mz hn1 hn2 (xs (i + 1))) (cwV 1 hts (lw_V q200 q201 q202 q10 q203) rfl rfl rfl (by decide +kernel) ⟨Nat.le_of_ble_eq_true rfl, Nat.le_of_ble_eq_true rfl⟩) hK hP hD hS hA 0 2 rfl rfl rfl [0, 1] rfl [12, 13, 14, 15] [0, 1, 2, 3, 4, 5, 6, 7, 8, 9, 10, 11] rfl (by decide) rfl (by decide) (by decide) [0, 1, 2, 3, 4, 5, 6, 7, 8, 9, 10, 11, 12, 13, 14, 15] (fun _ => rfl) (by decide) rfl hl.1 rfl (Nat.le_of_ble_eq_true rfl) dL_law_254 ⟨Nat.le_of_ble_eq_true rfl, Nat.le_of_ble_eq_true rfl⟩ (fun u2 H locs e2 hP hD hKn hS => ?_)
  have hP : va_P D vwCl [(hd, .inr (0, [.ref f1, .ref f2, .ref al, .ref ar, .ref az, .ref ax, .ref ay, .int (nI nl), .int (nI nr)])), (f1, .inr (1, [.long (lN nt_P), .ref a1, .ref b1])), (f2, .inr (1, [.long (lN nt_Q), .ref a2, .ref b2])), (al, .inl (cI, 256, .inl lf)), (ar, .inl (cI, 256, .inl rf)), (az, .inl (cJ, 512, .inr (.inl u1.1))), (ax, .inl (cJ, 512, .inr (.inl u1.2.1))), (ay, .inl (cJ, 512, .inr (.inl u1.2.2.1))), (a1, .inl (cJ, 512, .inr (.inl u1.2.2.2.1))), (b1, .inl (cJ, 512, .inr (.inl u1.2.2.2.2.1))), (a2, .inl (cJ, 512, .inr (.inl u1.2.2.2.2.2.1))), (b2, .inl (cJ, 512, .inr (.inl u1.2.2.2.2.2.2))), (hm, .inr (2, [.ref ma, .ref mb, .ref mz, .int (nI nl), .int (nI nr)])), (ma, .inl (cI, 256, .inl lf)), (mb, .inl (cI, 256, .inl rf)), (mz, .inl (cJ, 512, .inr (.inl u2)))] H := hP
  have hD : va_D A [(hd, .inr (0, [.ref f1, .ref f2, .ref al, .ref ar, .ref az, .ref ax, .ref ay, .int (nI nl), .int (nI nr)])), (f1, .inr (1, [.long (lN nt_P), .ref a1, .ref b1])), (f2, .inr (1, [.long (lN nt_Q), .ref a2, .ref b2])), (al, .inl (cI, 256, .inl lf)), (ar, .inl (cI, 256, .inl rf)), (az, .inl (cJ, 512, .inr (.inl u1.1))), (ax, .inl (cJ, 512, .inr (.inl u1.2.1))), (ay, .inl (cJ, 512, .inr (.inl u1.2.2.1))), (a1, .inl (cJ, 512, .inr (.inl u1.2.2.2.1))), (b1, .inl (cJ, 512, .inr (.inl u1.2.2.2.2.1))), (a2, .inl (cJ, 512, .inr (.inl u1.2.2.2.2.2.1))), (b2, .inl (cJ, 512, .inr (.inl u1.2.2.2.2.2.2))), (hm, .inr (2, [.ref ma, .ref mb, .ref mz, .int (nI nl), .int (nI nr)])), (ma, .inl (cI, 256, .inl lf)), (mb, .inl (cI, 256, .inl rf)), (mz, .inl (cJ, 512, .inr (.inl u2)))] := hD
  refine lv_goto (tgt := 295) hx hb dL_law_257 (by decide) ?_
  exact kk H locs ⟨nl, nr, lf, rf, u1.1, u1.2.1, u1.2.2.1, u1.2.2.2.1, u1.2.2.2.2.1, u1.2.2.2.2.2.1, u1.2.2.2.2.2.2, u2, hn1, hn2, hsl, hsr, fun j hj => (e1 j hj).trans (e2 j hj).symm, hP, hD, hS⟩
set_option maxHeartbeats 4000000 in
set_option maxRecDepth 100000 in
theorem law_c6 {p : Program} {l : Launch} {e : Env} {s : State} {m : MethodId} {below : List Frame} {meth : Method} {c : Code} {Q : State → Prop} {D : va_G} {A : Nat → Prop} {sb L : Nat} {xs : Nat → Int32} {cI cJ : ClassId} {hd f1 f2 al ar az ax ay a1 b1 a2 b2 hm ma mb mz : Nat} (C : k_C p s m #[Value.ref sb] meth c ⟨R_law, meth.name, ""⟩ code 4 ret) (hX : va_X sb L xs s s.heap) (hbl : sb < s.heap.size) (hbA : ¬ A sb) (hA : ∀ q : Nat, s.heap.size ≤ q → A q) (hK : va_K D vwCl [(cI, .int), (cJ, .long)] s) (hL : L ≤ 320) {i : Nat} (hi : i + 5 ≤ L) {H : Heap} {locs : List Loc} {ls : Array Slot} (hl : lv_has ls 4 [(0, .ref sb), (1, .ref hd), (2, .ref hm), (3, .int (nI i))]) (hI : lk_I D A s cI cJ hd f1 f2 al ar az ax ay a1 b1 a2 b2 hm ma mb mz H locs)
    (kk : ∀ (H : Heap) (locs : List Loc), lk_I D A s cI cJ hd f1 f2 al ar az ax ay a1 b1 a2 b2 hm ma mb mz H locs → W p l e room_1 s m #[Value.ref sb] below meth c H locs 600000 7290000 Q (F0 m 295 ls [])) : W p l e room_1 s m #[Value.ref sb] below meth c H locs 600000 7290000 Q (F0 m 260 ls []) := by
  obtain ⟨hx, hb, hml, hr, hlocks, hown, hin, hts⟩ := id C
  have hown : s.vm.findClass R_law = some m.cls := hown
  obtain ⟨nl, nr, lf, rf, Zf, Xf, Yf, A1, B1, A2, B2, Mz, hn1, hn2, hsl, hsr, hz, hP, hD, hS⟩ := hI
  refine lv_aload_n hx hb dL_law_260 rfl (lv_at hl 1 rfl) ?_
  refine k_cVv (own := R_law) (wr := [(hm, .inr (2, [.ref ma, .ref mb, .ref mz, .int (nI nl), .int (nI nr)])), (ma, .inl (cI, 256, .inl lf)), (mb, .inl (cI, 256, .inl rf)), (mz, .inl (cJ, 512, .inr (.inl Mz)))]) (wo := fun u1 => [(hd, .inr (0, [.ref f1, .ref f2, .ref al, .ref ar, .ref az, .ref ax, .ref ay, .int (nI nl), .int (nI nr)])), (f1, .inr (1, [.long (lN nt_P), .ref a1, .ref b1])), (f2, .inr (1, [.long (lN nt_Q), .ref a2, .ref b2])), (al, .inl (cI, 256, .inl lf)), (ar, .inl (cI, 256, .inl rf)), (az, .inl (cJ, 512, .inr (.inl u1.1))), (ax, .inl (cJ, 512, .inr (.inl u1.2.1))), (ay, .inl (cJ, 512, .inr (.inl u1.2.2.1))), (a1, .inl (cJ, 512, .inr (.inl u1.2.2.2.1))), (b1, .inl (cJ, 512, .inr (.inl u1.2.2.2.2.1))), (a2, .inl (cJ, 512, .inr (.inl u1.2.2.2.2.2.1))), (b2, .inl (cJ, 512, .inr (.inl u1.2.2.2.2.2.2))), (hm, .inr (2, [.ref ma, .ref mb, .ref mz, .int (nI nl), .int (nI nr)])), (ma, .inl (cI, 256, .inl lf)), (mb, .inl (cI, 256, .inl rf)), (mz, .inl (cJ, 512, .inr (.inl Mz)))]) C rfl (m_likeness l D hd f1 f2 al ar az ax ay nl nr a1 b1 a2 b2 cI cJ lf rf Zf Xf Yf A1 B1 A2 B2 hn1 hn2 hsl hsr) (cwV 0 hts (lw_V q146 q147 q148 q8 q149) rfl rfl rfl (by decide +kernel) ⟨Nat.le_of_ble_eq_true rfl, Nat.le_of_ble_eq_true rfl⟩) hK hP hD hS hA 0 0 rfl rfl rfl [0, 1] rfl [0, 1, 2, 3, 4, 5, 6, 7, 8, 9, 10, 11] [12, 13, 14, 15] rfl (by decide) rfl (by decide) (by decide) [4, 5, 6, 7, 8, 9, 10, 11, 12, 13, 14, 15, 0, 1, 2, 3] (fun _ => rfl) (by decide) rfl hl.1 rfl (Nat.le_of_ble_eq_true rfl) dL_law_261 ⟨Nat.le_of_ble_eq_true rfl, Nat.le_of_ble_eq_true rfl⟩ (fun u1 H locs e1 hP hD hKn hS => ?_)
  have hP : va_P D vwCl [(hd, .inr (0, [.ref f1, .ref f2, .ref al, .ref ar, .ref az, .ref ax, .ref ay, .int (nI nl), .int (nI nr)])), (f1, .inr (1, [.long (lN nt_P), .ref a1, .ref b1])), (f2, .inr (1, [.long (lN nt_Q), .ref a2, .ref b2])), (al, .inl (cI, 256, .inl lf)), (ar, .inl (cI, 256, .inl rf)), (az, .inl (cJ, 512, .inr (.inl u1.1))), (ax, .inl (cJ, 512, .inr (.inl u1.2.1))), (ay, .inl (cJ, 512, .inr (.inl u1.2.2.1))), (a1, .inl (cJ, 512, .inr (.inl u1.2.2.2.1))), (b1, .inl (cJ, 512, .inr (.inl u1.2.2.2.2.1))), (a2, .inl (cJ, 512, .inr (.inl u1.2.2.2.2.2.1))), (b2, .inl (cJ, 512, .inr (.inl u1.2.2.2.2.2.2))), (hm, .inr (2, [.ref ma, .ref mb, .ref mz, .int (nI nl), .int (nI nr)])), (ma, .inl (cI, 256, .inl lf)), (mb, .inl (cI, 256, .inl rf)), (mz, .inl (cJ, 512, .inr (.inl Mz)))] H := hP
  have hD : va_D A [(hd, .inr (0, [.ref f1, .ref f2, .ref al, .ref ar, .ref az, .ref ax, .ref ay, .int (nI nl), .int (nI nr)])), (f1, .inr (1, [.long (lN nt_P), .ref a1, .ref b1])), (f2, .inr (1, [.long (lN nt_Q), .ref a2, .ref b2])), (al, .inl (cI, 256, .inl lf)), (ar, .inl (cI, 256, .inl rf)), (az, .inl (cJ, 512, .inr (.inl u1.1))), (ax, .inl (cJ, 512, .inr (.inl u1.2.1))), (ay, .inl (cJ, 512, .inr (.inl u1.2.2.1))), (a1, .inl (cJ, 512, .inr (.inl u1.2.2.2.1))), (b1, .inl (cJ, 512, .inr (.inl u1.2.2.2.2.1))), (a2, .inl (cJ, 512, .inr (.inl u1.2.2.2.2.2.1))), (b2, .inl (cJ, 512, .inr (.inl u1.2.2.2.2.2.2))), (hm, .inr (2, [.ref ma, .ref mb, .ref mz, .int (nI nl), .int (nI nr)])), (ma, .inl (cI, 256, .inl lf)), (mb, .inl (cI, 256, .inl rf)), (mz, .inl (cJ, 512, .inr (.inl Mz)))] := hD
  refine lv_aload_n hx hb dL_law_264 rfl (lv_at hl 2 rfl) ?_
  refine k_cVv (own := R_law) (wr := [(hd, .inr (0, [.ref f1, .ref f2, .ref al, .ref ar, .ref az, .ref ax, .ref ay, .int (nI nl), .int (nI nr)])), (f1, .inr (1, [.long (lN nt_P), .ref a1, .ref b1])), (f2, .inr (1, [.long (lN nt_Q), .ref a2, .ref b2])), (al, .inl (cI, 256, .inl lf)), (ar, .inl (cI, 256, .inl rf)), (az, .inl (cJ, 512, .inr (.inl u1.1))), (ax, .inl (cJ, 512, .inr (.inl u1.2.1))), (ay, .inl (cJ, 512, .inr (.inl u1.2.2.1))), (a1, .inl (cJ, 512, .inr (.inl u1.2.2.2.1))), (b1, .inl (cJ, 512, .inr (.inl u1.2.2.2.2.1))), (a2, .inl (cJ, 512, .inr (.inl u1.2.2.2.2.2.1))), (b2, .inl (cJ, 512, .inr (.inl u1.2.2.2.2.2.2)))]) (wo := fun u2 => [(hd, .inr (0, [.ref f1, .ref f2, .ref al, .ref ar, .ref az, .ref ax, .ref ay, .int (nI nl), .int (nI nr)])), (f1, .inr (1, [.long (lN nt_P), .ref a1, .ref b1])), (f2, .inr (1, [.long (lN nt_Q), .ref a2, .ref b2])), (al, .inl (cI, 256, .inl lf)), (ar, .inl (cI, 256, .inl rf)), (az, .inl (cJ, 512, .inr (.inl u1.1))), (ax, .inl (cJ, 512, .inr (.inl u1.2.1))), (ay, .inl (cJ, 512, .inr (.inl u1.2.2.1))), (a1, .inl (cJ, 512, .inr (.inl u1.2.2.2.1))), (b1, .inl (cJ, 512, .inr (.inl u1.2.2.2.2.1))), (a2, .inl (cJ, 512, .inr (.inl u1.2.2.2.2.2.1))), (b2, .inl (cJ, 512, .inr (.inl u1.2.2.2.2.2.2))), (hm, .inr (2, [.ref ma, .ref mb, .ref mz, .int (nI nl), .int (nI nr)])), (ma, .inl (cI, 256, .inl lf)), (mb, .inl (cI, 256, .inl rf)), (mz, .inl (cJ, 512, .inr (.inl u2)))]) C rfl (m_mlikeness l D hm ma mb mz nl nr cI cJ lf rf Mz hn1 hn2) (cwV 0 hts (lw_V q204 q205 q206 q10 q207) rfl rfl rfl (by decide +kernel) ⟨Nat.le_of_ble_eq_true rfl, Nat.le_of_ble_eq_true rfl⟩) hK hP hD hS hA 0 2 rfl rfl rfl [0, 1] rfl [12, 13, 14, 15] [0, 1, 2, 3, 4, 5, 6, 7, 8, 9, 10, 11] rfl (by decide) rfl (by decide) (by decide) [0, 1, 2, 3, 4, 5, 6, 7, 8, 9, 10, 11, 12, 13, 14, 15] (fun _ => rfl) (by decide) rfl hl.1 rfl (Nat.le_of_ble_eq_true rfl) dL_law_265 ⟨Nat.le_of_ble_eq_true rfl, Nat.le_of_ble_eq_true rfl⟩ (fun u2 H locs e2 hP hD hKn hS => ?_)
  have hP : va_P D vwCl [(hd, .inr (0, [.ref f1, .ref f2, .ref al, .ref ar, .ref az, .ref ax, .ref ay, .int (nI nl), .int (nI nr)])), (f1, .inr (1, [.long (lN nt_P), .ref a1, .ref b1])), (f2, .inr (1, [.long (lN nt_Q), .ref a2, .ref b2])), (al, .inl (cI, 256, .inl lf)), (ar, .inl (cI, 256, .inl rf)), (az, .inl (cJ, 512, .inr (.inl u1.1))), (ax, .inl (cJ, 512, .inr (.inl u1.2.1))), (ay, .inl (cJ, 512, .inr (.inl u1.2.2.1))), (a1, .inl (cJ, 512, .inr (.inl u1.2.2.2.1))), (b1, .inl (cJ, 512, .inr (.inl u1.2.2.2.2.1))), (a2, .inl (cJ, 512, .inr (.inl u1.2.2.2.2.2.1))), (b2, .inl (cJ, 512, .inr (.inl u1.2.2.2.2.2.2))), (hm, .inr (2, [.ref ma, .ref mb, .ref mz, .int (nI nl), .int (nI nr)])), (ma, .inl (cI, 256, .inl lf)), (mb, .inl (cI, 256, .inl rf)), (mz, .inl (cJ, 512, .inr (.inl u2)))] H := hP
  have hD : va_D A [(hd, .inr (0, [.ref f1, .ref f2, .ref al, .ref ar, .ref az, .ref ax, .ref ay, .int (nI nl), .int (nI nr)])), (f1, .inr (1, [.long (lN nt_P), .ref a1, .ref b1])), (f2, .inr (1, [.long (lN nt_Q), .ref a2, .ref b2])), (al, .inl (cI, 256, .inl lf)), (ar, .inl (cI, 256, .inl rf)), (az, .inl (cJ, 512, .inr (.inl u1.1))), (ax, .inl (cJ, 512, .inr (.inl u1.2.1))), (ay, .inl (cJ, 512, .inr (.inl u1.2.2.1))), (a1, .inl (cJ, 512, .inr (.inl u1.2.2.2.1))), (b1, .inl (cJ, 512, .inr (.inl u1.2.2.2.2.1))), (a2, .inl (cJ, 512, .inr (.inl u1.2.2.2.2.2.1))), (b2, .inl (cJ, 512, .inr (.inl u1.2.2.2.2.2.2))), (hm, .inr (2, [.ref ma, .ref mb, .ref mz, .int (nI nl), .int (nI nr)])), (ma, .inl (cI, 256, .inl lf)), (mb, .inl (cI, 256, .inl rf)), (mz, .inl (cJ, 512, .inr (.inl u2)))] := hD
  refine lv_goto (tgt := 295) hx hb dL_law_268 (by decide) ?_
  exact kk H locs ⟨nl, nr, lf, rf, u1.1, u1.2.1, u1.2.2.1, u1.2.2.2.1, u1.2.2.2.2.1, u1.2.2.2.2.2.1, u1.2.2.2.2.2.2, u2, hn1, hn2, hsl, hsr, fun j hj => (e1 j hj).trans (e2 j hj).symm, hP, hD, hS⟩
set_option maxHeartbeats 4000000 in
set_option maxRecDepth 100000 in
theorem law_c7 {p : Program} {l : Launch} {e : Env} {s : State} {m : MethodId} {below : List Frame} {meth : Method} {c : Code} {Q : State → Prop} {D : va_G} {A : Nat → Prop} {sb L : Nat} {xs : Nat → Int32} {cI cJ : ClassId} {hd f1 f2 al ar az ax ay a1 b1 a2 b2 hm ma mb mz : Nat} (C : k_C p s m #[Value.ref sb] meth c ⟨R_law, meth.name, ""⟩ code 4 ret) (hX : va_X sb L xs s s.heap) (hbl : sb < s.heap.size) (hbA : ¬ A sb) (hA : ∀ q : Nat, s.heap.size ≤ q → A q) (hK : va_K D vwCl [(cI, .int), (cJ, .long)] s) (hL : L ≤ 320) {i : Nat} (hi : i + 5 ≤ L) {H : Heap} {locs : List Loc} {ls : Array Slot} (hl : lv_has ls 4 [(0, .ref sb), (1, .ref hd), (2, .ref hm), (3, .int (nI i))]) (hI : lk_I D A s cI cJ hd f1 f2 al ar az ax ay a1 b1 a2 b2 hm ma mb mz H locs)
    (kk : ∀ (H : Heap) (locs : List Loc), lk_I D A s cI cJ hd f1 f2 al ar az ax ay a1 b1 a2 b2 hm ma mb mz H locs → W p l e room_1 s m #[Value.ref sb] below meth c H locs 600000 7290000 Q (F0 m 295 ls [])) : W p l e room_1 s m #[Value.ref sb] below meth c H locs 600000 7290000 Q (F0 m 271 ls []) := by
  obtain ⟨hx, hb, hml, hr, hlocks, hown, hin, hts⟩ := id C
  have hown : s.vm.findClass R_law = some m.cls := hown
  obtain ⟨nl, nr, lf, rf, Zf, Xf, Yf, A1, B1, A2, B2, Mz, hn1, hn2, hsl, hsr, hz, hP, hD, hS⟩ := hI
  refine lv_aload_n hx hb dL_law_271 rfl (lv_at hl 1 rfl) ?_
  refine lv_aload_n hx hb dL_law_272 rfl (lv_at hl 0 rfl) ?_
  refine lv_iload_n hx hb dL_law_273 rfl (lv_at hl 3 rfl) ?_
  refine lv_iconst (v := nI 1) hx hb dL_law_274 (by decide) ?_
  refine k_iadd hx hb dL_law_275  ?_
  refine k_sld hx hb hX hbl hbA hS (by omega) hL dL_law_276 ?_
  refine k_cVl (own := R_law) (wr := [(f1, .inr (1, [.long (lN nt_P), .ref a1, .ref b1])), (f2, .inr (1, [.long (lN nt_Q), .ref a2, .ref b2])), (al, .inl (cI, 256, .inl lf)), (ar, .inl (cI, 256, .inl rf)), (ax, .inl (cJ, 512, .inr (.inl Xf))), (ay, .inl (cJ, 512, .inr (.inl Yf))), (a1, .inl (cJ, 512, .inr (.inl A1))), (b1, .inl (cJ, 512, .inr (.inl B1))), (a2, .inl (cJ, 512, .inr (.inl A2))), (b2, .inl (cJ, 512, .inr (.inl B2))), (hm, .inr (2, [.ref ma, .ref mb, .ref mz, .int (nI nl), .int (nI nr)])), (ma, .inl (cI, 256, .inl lf)), (mb, .inl (cI, 256, .inl rf)), (mz, .inl (cJ, 512, .inr (.inl Mz)))]) (wo := fun u => [(hd, .inr (0, [.ref f1, .ref f2, .ref al, .ref ar, .ref az, .ref ax, .ref ay, .int (nI nl), .int (nI nr)])), (f1, .inr (1, [.long (lN nt_P), .ref a1, .ref b1])), (f2, .inr (1, [.long (lN nt_Q), .ref a2, .ref b2])), (al, .inl (cI, 256, .inl lf)), (ar, .inl (cI, 256, .inl rf)), (az, .inl (cJ, 512, .inr (.inl Zf))), (ax, .inl (cJ, 512, .inr (.inl Xf))), (ay, .inl (cJ, 512, .inr (.inl Yf))), (a1, .inl (cJ, 512, .inr (.inl A1))), (b1, .inl (cJ, 512, .inr (.inl B1))), (a2, .inl (cJ, 512, .inr (.inl A2))), (b2, .inl (cJ, 512, .inr (.inl B2))), (hm, .inr (2, [.ref ma, .ref mb, .ref mz, .int (nI nl), .int (nI nr)])), (ma, .inl (cI, 256, .inl lf)), (mb, .inl (cI, 256, .inl rf)), (mz, .inl (cJ, 512, .inr (.inl Mz)))]) C rfl (m_at l D hd f1 f2 al ar az ax ay nl nr cJ Zf (xs (i + 1))) (cwV 1 hts (lw_V q150 q151 q152 q8 q153) rfl rfl rfl (by decide +kernel) ⟨Nat.le_of_ble_eq_true rfl, Nat.le_of_ble_eq_true rfl⟩) hK hP hD hS hA 0 0 rfl rfl rfl [1] rfl [0, 5] [1, 2, 3, 4, 6, 7, 8, 9, 10, 11, 12, 13, 14, 15] rfl (by decide) rfl (by decide) (by decide) [14, 0, 1, 2, 3, 15, 4, 5, 6, 7, 8, 9, 10, 11, 12, 13] (fun _ => rfl) (by decide) rfl hl.1 rfl (Nat.le_of_ble_eq_true rfl) dL_law_277 ⟨Nat.le_of_ble_eq_true rfl, Nat.le_of_ble_eq_true rfl⟩ (fun r1 u H locs e1 hP hD hS => ?_)
  have hP : va_P D vwCl [(hd, .inr (0, [.ref f1, .ref f2, .ref al, .ref ar, .ref az, .ref ax, .ref ay, .int (nI nl), .int (nI nr)])), (f1, .inr (1, [.long (lN nt_P), .ref a1, .ref b1])), (f2, .inr (1, [.long (lN nt_Q), .ref a2, .ref b2])), (al, .inl (cI, 256, .inl lf)), (ar, .inl (cI, 256, .inl rf)), (az, .inl (cJ, 512, .inr (.inl Zf))), (ax, .inl (cJ, 512, .inr (.inl Xf))), (ay, .inl (cJ, 512, .inr (.inl Yf))), (a1, .inl (cJ, 512, .inr (.inl A1))), (b1, .inl (cJ, 512, .inr (.inl B1))), (a2, .inl (cJ, 512, .inr (.inl A2))), (b2, .inl (cJ, 512, .inr (.inl B2))), (hm, .inr (2, [.ref ma, .ref mb, .ref mz, .int (nI nl), .int (nI nr)])), (ma, .inl (cI, 256, .inl lf)), (mb, .inl (cI, 256, .inl rf)), (mz, .inl (cJ, 512, .inr (.inl Mz)))] H := hP
  have hD : va_D A [(hd, .inr (0, [.ref f1, .ref f2, .ref al, .ref ar, .ref az, .ref ax, .ref ay, .int (nI nl), .int (nI nr)])), (f1, .inr (1, [.long (lN nt_P), .ref a1, .ref b1])), (f2, .inr (1, [.long (lN nt_Q), .ref a2, .ref b2])), (al, .inl (cI, 256, .inl lf)), (ar, .inl (cI, 256, .inl rf)), (az, .inl (cJ, 512, .inr (.inl Zf))), (ax, .inl (cJ, 512, .inr (.inl Xf))), (ay, .inl (cJ, 512, .inr (.inl Yf))), (a1, .inl (cJ, 512, .inr (.inl A1))), (b1, .inl (cJ, 512, .inr (.inl B1))), (a2, .inl (cJ, 512, .inr (.inl A2))), (b2, .inl (cJ, 512, .inr (.inl B2))), (hm, .inr (2, [.ref ma, .ref mb, .ref mz, .int (nI nl), .int (nI nr)])), (ma, .inl (cI, 256, .inl lf)), (mb, .inl (cI, 256, .inl rf)), (mz, .inl (cJ, 512, .inr (.inl Mz)))] := hD
  refine lv_aload_n hx hb dL_law_280 rfl (lv_at hl 2 rfl) ?_
  refine lv_aload_n hx hb dL_law_281 rfl (lv_at hl 0 rfl) ?_
  refine lv_iload_n hx hb dL_law_282 rfl (lv_at hl 3 rfl) ?_
  refine lv_iconst (v := nI 1) hx hb dL_law_283 (by decide) ?_
  refine k_iadd hx hb dL_law_284  ?_
  refine k_sld hx hb hX hbl hbA hS (by omega) hL dL_law_285 ?_
  refine k_cVl (own := R_law) (wr := [(hd, .inr (0, [.ref f1, .ref f2, .ref al, .ref ar, .ref az, .ref ax, .ref ay, .int (nI nl), .int (nI nr)])), (f1, .inr (1, [.long (lN nt_P), .ref a1, .ref b1])), (f2, .inr (1, [.long (lN nt_Q), .ref a2, .ref b2])), (al, .inl (cI, 256, .inl lf)), (ar, .inl (cI, 256, .inl rf)), (az, .inl (cJ, 512, .inr (.inl Zf))), (ax, .inl (cJ, 512, .inr (.inl Xf))), (ay, .inl (cJ, 512, .inr (.inl Yf))), (a1, .inl (cJ, 512, .inr (.inl A1))), (b1, .inl (cJ, 512, .inr (.inl B1))), (a2, .inl (cJ, 512, .inr (.inl A2))), (b2, .inl (cJ, 512, .inr (.inl B2))), (ma, .inl (cI, 256, .inl lf)), (mb, .inl (cI, 256, .inl rf))]) (wo := fun u => [(hd, .inr (0, [.ref f1, .ref f2, .ref al, .ref ar, .ref az, .ref ax, .ref ay, .int (nI nl), .int (nI nr)])), (f1, .inr (1, [.long (lN nt_P), .ref a1, .ref b1])), (f2, .inr (1, [.long (lN nt_Q), .ref a2, .ref b2])), (al, .inl (cI, 256, .inl lf)), (ar, .inl (cI, 256, .inl rf)), (az, .inl (cJ, 512, .inr (.inl Zf))), (ax, .inl (cJ, 512, .inr (.inl Xf))), (ay, .inl (cJ, 512, .inr (.inl Yf))), (a1, .inl (cJ, 512, .inr (.inl A1))), (b1, .inl (cJ, 512, .inr (.inl B1))), (a2, .inl (cJ, 512, .inr (.inl A2))), (b2, .inl (cJ, 512, .inr (.inl B2))), (hm, .inr (2, [.ref ma, .ref mb, .ref mz, .int (nI nl), .int (nI nr)])), (ma, .inl (cI, 256, .inl lf)), (mb, .inl (cI, 256, .inl rf)), (mz, .inl (cJ, 512, .inr (.inl Mz)))]) C rfl (m_mat l D hm ma mb mz nl nr cJ Mz (xs (i + 1))) (cwV 1 hts (lw_V q208 q209 q210 q10 q211) rfl rfl rfl (by decide +kernel) ⟨Nat.le_of_ble_eq_true rfl, Nat.le_of_ble_eq_true rfl⟩) hK hP hD hS hA 0 2 rfl rfl rfl [1] rfl [12, 15] [0, 1, 2, 3, 4, 5, 6, 7, 8, 9, 10, 11, 13, 14] rfl (by decide) rfl (by decide) (by decide) [0, 1, 2, 3, 4, 5, 6, 7, 8, 9, 10, 11, 14, 12, 13, 15] (fun _ => rfl) (by decide) rfl hl.1 rfl (Nat.le_of_ble_eq_true rfl) dL_law_286 ⟨Nat.le_of_ble_eq_true rfl, Nat.le_of_ble_eq_true rfl⟩ (fun r2 u H locs e2 hP hD hS => ?_)
  have hP : va_P D vwCl [(hd, .inr (0, [.ref f1, .ref f2, .ref al, .ref ar, .ref az, .ref ax, .ref ay, .int (nI nl), .int (nI nr)])), (f1, .inr (1, [.long (lN nt_P), .ref a1, .ref b1])), (f2, .inr (1, [.long (lN nt_Q), .ref a2, .ref b2])), (al, .inl (cI, 256, .inl lf)), (ar, .inl (cI, 256, .inl rf)), (az, .inl (cJ, 512, .inr (.inl Zf))), (ax, .inl (cJ, 512, .inr (.inl Xf))), (ay, .inl (cJ, 512, .inr (.inl Yf))), (a1, .inl (cJ, 512, .inr (.inl A1))), (b1, .inl (cJ, 512, .inr (.inl B1))), (a2, .inl (cJ, 512, .inr (.inl A2))), (b2, .inl (cJ, 512, .inr (.inl B2))), (hm, .inr (2, [.ref ma, .ref mb, .ref mz, .int (nI nl), .int (nI nr)])), (ma, .inl (cI, 256, .inl lf)), (mb, .inl (cI, 256, .inl rf)), (mz, .inl (cJ, 512, .inr (.inl Mz)))] H := hP
  have hD : va_D A [(hd, .inr (0, [.ref f1, .ref f2, .ref al, .ref ar, .ref az, .ref ax, .ref ay, .int (nI nl), .int (nI nr)])), (f1, .inr (1, [.long (lN nt_P), .ref a1, .ref b1])), (f2, .inr (1, [.long (lN nt_Q), .ref a2, .ref b2])), (al, .inl (cI, 256, .inl lf)), (ar, .inl (cI, 256, .inl rf)), (az, .inl (cJ, 512, .inr (.inl Zf))), (ax, .inl (cJ, 512, .inr (.inl Xf))), (ay, .inl (cJ, 512, .inr (.inl Yf))), (a1, .inl (cJ, 512, .inr (.inl A1))), (b1, .inl (cJ, 512, .inr (.inl B1))), (a2, .inl (cJ, 512, .inr (.inl A2))), (b2, .inl (cJ, 512, .inr (.inl B2))), (hm, .inr (2, [.ref ma, .ref mb, .ref mz, .int (nI nl), .int (nI nr)])), (ma, .inl (cI, 256, .inl lf)), (mb, .inl (cI, 256, .inl rf)), (mz, .inl (cJ, 512, .inr (.inl Mz)))] := hD
  refine W.lcmp hx hb dL_law_289 ?_
  refine lv_if_eq (tgt := 295) hx hb dL_law_290 (by decide)  (fun c1 => ?_) (fun c1 => ?_)
  · exact kk H locs ⟨nl, nr, lf, rf, Zf, Xf, Yf, A1, B1, A2, B2, Mz, hn1, hn2, hsl, hsr, hz, hP, hD, hS⟩
  · have q : r1 = r2 := (e1.trans (hz _ (Nat.mod_lt _ (by decide)))).trans e2.symm
    exact absurd ((lg_cmp_eq r1 r2).mpr q) c1
set_option maxHeartbeats 4000000 in
set_option maxRecDepth 100000 in
theorem law_loop {p : Program} {l : Launch} {e : Env} {s : State} {m : MethodId} {below : List Frame} {meth : Method} {c : Code} {Q : State → Prop} {D : va_G} {A : Nat → Prop} {sb L : Nat} {xs : Nat → Int32} {cI cJ : ClassId} {hd f1 f2 al ar az ax ay a1 b1 a2 b2 hm ma mb mz : Nat} (C : k_C p s m #[Value.ref sb] meth c ⟨R_law, meth.name, ""⟩ code 4 ret) (hX : va_X sb L xs s s.heap) (hbl : sb < s.heap.size) (hbA : ¬ A sb) (hA : ∀ q : Nat, s.heap.size ≤ q → A q) (hK : va_K D vwCl [(cI, .int), (cJ, .long)] s) (hL : L ≤ 320)
    (kk : ∀ (H : Heap) (locs : List Loc) (ls : Array Slot), va_S A s.heap H locs → W p l e room_1 s m #[Value.ref sb] below meth c H locs 600000 7290000 Q (F0 m 301 ls [])) :
    ∀ (N i : Nat) (H : Heap) (locs : List Loc) (ls : Array Slot), L < i + N → i ≤ 320 → lv_has ls 4 [(0, .ref sb), (1, .ref hd), (2, .ref hm), (3, .int (nI i))] → lk_I D A s cI cJ hd f1 f2 al ar az ax ay a1 b1 a2 b2 hm ma mb mz H locs → W p l e room_1 s m #[Value.ref sb] below meth c H locs 600000 7290000 Q (F0 m 18 ls []) := by
  obtain ⟨hx, hb, hml, hr, hlocks, hown, hin, hts⟩ := id C
  have hown : s.vm.findClass R_law = some m.cls := hown
  intro N
  induction N with
  | zero =>
    intro i H locs ls h1 h2 hl hI
    have hS := hI
    obtain ⟨_, _, _, _, _, _, _, _, _, _, _, _, _, _, _, _, _, _, _, hS⟩ := hI
    refine lv_iload_n hx hb dL_law_18 rfl (lv_at hl 3 rfl) ?_
    refine lv_aload_n hx hb dL_law_19 rfl (lv_at hl 0 rfl) ?_
    refine va_slen hx hb hX hbl hbA hS dL_law_20 ?_
    refine k_ti (nI L) rfl ?_
    refine lv_iconst (v := nI 5) hx hb dL_law_21 (by decide) ?_
    refine lv_isub hx hb dL_law_22  ?_
    refine lv_icmp_gt (tgt := 301) hx hb dL_law_23 (by decide)  (fun c1 => ?_) (fun c1 => ?_)
    · exact kk H locs ls hS
    · have c2 : ¬ (nI L - nI 5).toInt < (nI i).toInt := fun h => c1 (Int32.lt_iff_toInt_lt.mpr h)
      rw [pk_sub_toInt (by omega) (by decide), nI_toInt (by omega)] at c2
      exact absurd h1 (by omega)
  | succ N ih =>
    intro i H locs ls h1 h2 hl hI
    have hI2 := hI
    obtain ⟨_, _, _, _, _, _, _, _, _, _, _, _, _, _, _, _, _, _, _, hS⟩ := hI2
    refine lv_iload_n hx hb dL_law_18 rfl (lv_at hl 3 rfl) ?_
    refine lv_aload_n hx hb dL_law_19 rfl (lv_at hl 0 rfl) ?_
    refine va_slen hx hb hX hbl hbA hS dL_law_20 ?_
    refine k_ti (nI L) rfl ?_
    refine lv_iconst (v := nI 5) hx hb dL_law_21 (by decide) ?_
    refine lv_isub hx hb dL_law_22  ?_
    refine lv_icmp_gt (tgt := 301) hx hb dL_law_23 (by decide)  (fun c1 => ?_) (fun c1 => ?_)
    · exact kk H locs ls hS
    · have c2 : ¬ (nI L - nI 5).toInt < (nI i).toInt := fun h => c1 (Int32.lt_iff_toInt_lt.mpr h)
      rw [pk_sub_toInt (by omega) (by decide), nI_toInt (by omega)] at c2
      have hi : i + 5 ≤ L := by omega
      have kc : ∀ (H : Heap) (locs : List Loc), lk_I D A s cI cJ hd f1 f2 al ar az ax ay a1 b1 a2 b2 hm ma mb mz H locs → W p l e room_1 s m #[Value.ref sb] below meth c H locs 600000 7290000 Q (F0 m 295 ls []) := by
        intro H locs hI
        refine lv_iinc (v := nI (i + 5)) (lv' := [(3, .int (nI (i + 5))), (0, .ref sb), (1, .ref hd), (2, .ref hm)]) hx hb dL_law_295 hl (k := 3) rfl (k_inc5 i) (by decide) rfl (fun ls hl => ?_)
        refine lv_goto (tgt := 18) hx hb dL_law_298 (by decide) ?_
        exact ih (i + 5) H locs ls (by omega) (by omega) (lv_sub hl [1, 2, 3, 0] rfl) hI
      refine lv_aload_n hx hb dL_law_26 rfl (lv_at hl 0 rfl) ?_
      refine lv_iload_n hx hb dL_law_27 rfl (lv_at hl 3 rfl) ?_
      refine k_sld hx hb hX hbl hbA hS (by omega) hL dL_law_28 ?_
      refine lv_bipush (v := nI 7) hx hb dL_law_29 (by decide) ?_
      refine lv_iand hx hb dL_law_31 ?_
      refine k_ti (nI ((xs i).toBitVec.toNat % 2 ^ 3)) (pk_and (xs i) 3 (by decide)) ?_
      obtain ⟨t, ht⟩ : ∃ t, (xs i).toBitVec.toNat % 2 ^ 3 = t := ⟨_, rfl⟩
      have ht8 : t < 8 := by omega
      refine k_ti (nI t) (by rw [ht]) ?_
      rcases (show t = 0 ∨ t = 1 ∨ t = 2 ∨ t = 3 ∨ t = 4 ∨ t = 5 ∨ t = 6 ∨ t = 7 by omega) with rfl | rfl | rfl | rfl | rfl | rfl | rfl | rfl
      · refine lv_tableIn (tgt := 80) (off := 48) hx hb dL_law_32 (by decide) (by decide) (by decide) (by decide) ?_
        exact law_c0 C hX hbl hbA hA hK hL hi hl hI kc
      · refine lv_tableIn (tgt := 133) (off := 101) hx hb dL_law_32 (by decide) (by decide) (by decide) (by decide) ?_
        exact law_c1 C hX hbl hbA hA hK hL hi hl hI kc
      · refine lv_tableIn (tgt := 186) (off := 154) hx hb dL_law_32 (by decide) (by decide) (by decide) (by decide) ?_
        exact law_c2 C hX hbl hbA hA hK hL hi hl hI kc
      · refine lv_tableIn (tgt := 207) (off := 175) hx hb dL_law_32 (by decide) (by decide) (by decide) (by decide) ?_
        exact law_c3 C hX hbl hbA hA hK hL hi hl hI kc
      · refine lv_tableIn (tgt := 218) (off := 186) hx hb dL_law_32 (by decide) (by decide) (by decide) (by decide) ?_
        exact law_c4 C hX hbl hbA hA hK hL hi hl hI kc
      · refine lv_tableIn (tgt := 239) (off := 207) hx hb dL_law_32 (by decide) (by decide) (by decide) (by decide) ?_
        exact law_c5 C hX hbl hbA hA hK hL hi hl hI kc
      · refine lv_tableIn (tgt := 260) (off := 228) hx hb dL_law_32 (by decide) (by decide) (by decide) (by decide) ?_
        exact law_c6 C hX hbl hbA hA hK hL hi hl hI kc
      · refine lv_tableIn (tgt := 271) (off := 239) hx hb dL_law_32 (by decide) (by decide) (by decide) (by decide) ?_
        exact law_c7 C hX hbl hbA hA hK hL hi hl hI kc
end
section
/-! the claim -/
set_option maxHeartbeats 4000000 in
set_option maxRecDepth 100000 in
theorem whole_start {p : Program} {e : Env} {s : State} {m : MethodId} {below : List Frame} {meth : Method} {c : Code} (l : Launch) {b L : Nat} {xs : Nat → Int32} (hL : L ≤ 320) (C0 : lw_At p s m meth c b L xs) : W p l e room_1 s m #[Value.ref b] below meth c s.heap [] 0 0 (lw_Z below #[Value.ref b] s) (entryFrame m ([Value.ref b] : List Value).toArray 4) := by
  obtain ⟨hx, hb, hr, hml, hown, hts0, hX, hbl, hlocks, hgv⟩ := id C0
  have hts : ∀ w ∈ lw_all, w.before #[Value.ref b] s = true := fun w h => hts0 w (lw_all_tbl h)
  have C : k_C p s m #[Value.ref b] meth c ⟨R_law, meth.name, ""⟩ code 4 ret := ⟨hx, hb, hml, hr, hlocks, hown, rfl, hts⟩
  obtain ⟨A, hAe⟩ : ∃ A : Nat → Prop, A = fun q : Nat => s.heap.size ≤ q := ⟨_, rfl⟩
  have hA : ∀ q : Nat, s.heap.size ≤ q → A q := fun q h => by rw [hAe]; exact h
  have hAf : ∀ q : Nat, A q → s.heap.size ≤ q := fun q h => by rw [hAe] at h; exact h
  have hbA : ¬ A b := fun h => Nat.not_le.mpr hbl (hAf b h)
  obtain ⟨c0, iS0, hKn0⟩ := u_known (C := RX0) (T := TX0) (N := 9) (n := 9) hts in_X0 (hts _ q12)
  obtain ⟨c1, iS1, hKn1⟩ := u_known (C := RX1) (T := TX1) (N := 3) (n := 3) hts in_X1 (hts _ q20)
  obtain ⟨c2, iS2, hKn2⟩ := u_known (C := RX2) (T := TX2) (N := 5) (n := 5) hts in_X2 (hts _ q155)
  obtain ⟨D, hKc⟩ : ∃ D : va_G, ∀ (k : Nat) (q : vw_C), vwCl[k]? = some q → u_Kn s q.1 q.2.1 q.2.2 (D.1 k) (D.2 k) := by
    refine ⟨(fun k => if k = 0 then c0 else if k = 1 then c1 else c2, fun k => if k = 0 then iS0 else if k = 1 then iS1 else iS2), ?_⟩
    intro k q hq
    match k, hq with
    | 0, hq => cases hq; exact hKn0
    | 1, hq => cases hq; exact hKn1
    | 2, hq => cases hq; exact hKn2
    | k + 3, hq => simp [vwCl] at hq
  have hS : va_S A s.heap s.heap [] := va_S.rf
  have hK : va_K D vwCl [] s := ⟨hKc, fun k q h => by simp at h⟩
  have hP : va_P D vwCl [] s.heap := fun k q h => by simp at h
  have hD : va_D A [] := ⟨fun i j p q h => by simp at h, fun k q h => by simp at h⟩
  have hl := lv_entry ([.ref b]) (n := 4) (Nat.le_of_ble_eq_true rfl)
  rw [lg_entry_eq]
  generalize (lg_sl ([.ref b]) ++ List.replicate (4 - (lg_sl ([.ref b])).length) Slot.unset).toArray = ls at hl ⊢
  have hl : lv_has ls 4 [(0, .ref b)] := hl
  refine va_new (ci := 0) (fs := [.null, .null, .null, .null, .null, .null, .null, .int (nI 0), .int (nI 0)]) (C := RX0) (T := TX0) (N := 9) hx hb hts in_X0 tyX0 tyX0_ok hown (hts _ q11) (hts _ q12) (hts _ q8) hK hP hD hS hA rfl (fun j hj => by rcases (show j = 0 ∨ j = 1 ∨ j = 2 ∨ j = 3 ∨ j = 4 ∨ j = 5 ∨ j = 6 ∨ j = 7 ∨ j = 8 by omega) with rfl | rfl | rfl | rfl | rfl | rfl | rfl | rfl | rfl <;> rfl) (Nat.le_of_ble_eq_true rfl) (Nat.le_of_ble_eq_true rfl) dL_law_0 (fun hd H hP hD hS => ?_)
  have hP : va_P D vwCl [(hd, .inr (0, [.null, .null, .null, .null, .null, .null, .null, .int (nI 0), .int (nI 0)]))] H := hP
  have hD : va_D A [(hd, .inr (0, [.null, .null, .null, .null, .null, .null, .null, .int (nI 0), .int (nI 0)]))] := hD
  refine lv_dup hx hb dL_law_3 rfl ?_
  refine k_cIv (own := R_law) (wr := []) (wo := fun u => [(hd, .inr (0, [.ref (u.1 0), .ref (u.1 1), .ref (u.1 2), .ref (u.1 3), .ref (u.1 4), .ref (u.1 5), .ref (u.1 6), .int (nI 0), .int (nI 0)])), (u.1 0, .inr (1, [.long (lN nt_P), .ref (u.1 7), .ref (u.1 8)])), (u.1 1, .inr (1, [.long (lN nt_Q), .ref (u.1 9), .ref (u.1 10)])), (u.1 2, .inl (u.2.1, 256, .inl ((fun _ => nI 0)))), (u.1 3, .inl (u.2.1, 256, .inl ((fun _ => nI 0)))), (u.1 4, .inl (u.2.2, 512, .inr (.inl ((fun _ => lN 0))))), (u.1 5, .inl (u.2.2, 512, .inr (.inl ((fun _ => lN 0))))), (u.1 6, .inl (u.2.2, 512, .inr (.inl ((fun _ => lN 0))))), (u.1 7, .inl (u.2.2, 512, .inr (.inl ((fun _ => lN 0))))), (u.1 8, .inl (u.2.2, 512, .inr (.inl ((fun _ => lN 0))))), (u.1 9, .inl (u.2.2, 512, .inr (.inl ((fun _ => lN 0))))), (u.1 10, .inl (u.2.2, 512, .inr (.inl ((fun _ => lN 0)))))]) C rfl (m_init l D hd) (cwI 0 hts (lw_meth q15) rfl rfl rfl (hts _ q8) (hts _ q13) (hts _ q14) rfl (by decide +kernel) ⟨Nat.le_of_ble_eq_true rfl, Nat.le_of_ble_eq_true rfl⟩) hK hP hD hS hA [] rfl [0] [] rfl (by decide) rfl (by decide) (by decide) [0, 1, 2, 3, 4, 5, 6, 7, 8, 9, 10, 11] (fun _ => rfl) (by decide) rfl hl.1 rfl (Nat.le_of_ble_eq_true rfl) dL_law_4 ⟨Nat.le_of_ble_eq_true rfl, Nat.le_of_ble_eq_true rfl⟩ (fun u H locs hw hP hD hKn hS => ?_)
  obtain ⟨ad, cI, cJ⟩ := u
  have hP : va_P D vwCl [(hd, .inr (0, [.ref ((ad 0)), .ref ((ad 1)), .ref ((ad 2)), .ref ((ad 3)), .ref ((ad 4)), .ref ((ad 5)), .ref ((ad 6)), .int (nI 0), .int (nI 0)])), ((ad 0), .inr (1, [.long (lN nt_P), .ref ((ad 7)), .ref ((ad 8))])), ((ad 1), .inr (1, [.long (lN nt_Q), .ref ((ad 9)), .ref ((ad 10))])), ((ad 2), .inl (cI, 256, .inl ((fun _ => nI 0)))), ((ad 3), .inl (cI, 256, .inl ((fun _ => nI 0)))), ((ad 4), .inl (cJ, 512, .inr (.inl ((fun _ => lN 0))))), ((ad 5), .inl (cJ, 512, .inr (.inl ((fun _ => lN 0))))), ((ad 6), .inl (cJ, 512, .inr (.inl ((fun _ => lN 0))))), ((ad 7), .inl (cJ, 512, .inr (.inl ((fun _ => lN 0))))), ((ad 8), .inl (cJ, 512, .inr (.inl ((fun _ => lN 0))))), ((ad 9), .inl (cJ, 512, .inr (.inl ((fun _ => lN 0))))), ((ad 10), .inl (cJ, 512, .inr (.inl ((fun _ => lN 0)))))] H := hP
  have hD : va_D A [(hd, .inr (0, [.ref ((ad 0)), .ref ((ad 1)), .ref ((ad 2)), .ref ((ad 3)), .ref ((ad 4)), .ref ((ad 5)), .ref ((ad 6)), .int (nI 0), .int (nI 0)])), ((ad 0), .inr (1, [.long (lN nt_P), .ref ((ad 7)), .ref ((ad 8))])), ((ad 1), .inr (1, [.long (lN nt_Q), .ref ((ad 9)), .ref ((ad 10))])), ((ad 2), .inl (cI, 256, .inl ((fun _ => nI 0)))), ((ad 3), .inl (cI, 256, .inl ((fun _ => nI 0)))), ((ad 4), .inl (cJ, 512, .inr (.inl ((fun _ => lN 0))))), ((ad 5), .inl (cJ, 512, .inr (.inl ((fun _ => lN 0))))), ((ad 6), .inl (cJ, 512, .inr (.inl ((fun _ => lN 0))))), ((ad 7), .inl (cJ, 512, .inr (.inl ((fun _ => lN 0))))), ((ad 8), .inl (cJ, 512, .inr (.inl ((fun _ => lN 0))))), ((ad 9), .inl (cJ, 512, .inr (.inl ((fun _ => lN 0))))), ((ad 10), .inl (cJ, 512, .inr (.inl ((fun _ => lN 0)))))] := hD
  have hK : va_K D vwCl [(cI, .int), (cJ, .long)] s := hKn
  refine lv_astore_n (lv' := [(1, .ref hd), (0, .ref b)]) hx hb dL_law_7 rfl hl (by decide) rfl (fun ls hl => ?_)
  refine va_new (ci := 2) (fs := [.null, .null, .null, .int (nI 0), .int (nI 0)]) (C := RX2) (T := TX2) (N := 5) hx hb hts in_X2 tyX2 tyX2_ok hown (hts _ q154) (hts _ q155) (hts _ q10) hK hP hD hS hA rfl (fun j hj => by rcases (show j = 0 ∨ j = 1 ∨ j = 2 ∨ j = 3 ∨ j = 4 by omega) with rfl | rfl | rfl | rfl | rfl <;> rfl) (Nat.le_of_ble_eq_true rfl) (Nat.le_of_ble_eq_true rfl) dL_law_8 (fun hm H hP hD hS => ?_)
  have hP : va_P D vwCl [(hd, .inr (0, [.ref ((ad 0)), .ref ((ad 1)), .ref ((ad 2)), .ref ((ad 3)), .ref ((ad 4)), .ref ((ad 5)), .ref ((ad 6)), .int (nI 0), .int (nI 0)])), ((ad 0), .inr (1, [.long (lN nt_P), .ref ((ad 7)), .ref ((ad 8))])), ((ad 1), .inr (1, [.long (lN nt_Q), .ref ((ad 9)), .ref ((ad 10))])), ((ad 2), .inl (cI, 256, .inl ((fun _ => nI 0)))), ((ad 3), .inl (cI, 256, .inl ((fun _ => nI 0)))), ((ad 4), .inl (cJ, 512, .inr (.inl ((fun _ => lN 0))))), ((ad 5), .inl (cJ, 512, .inr (.inl ((fun _ => lN 0))))), ((ad 6), .inl (cJ, 512, .inr (.inl ((fun _ => lN 0))))), ((ad 7), .inl (cJ, 512, .inr (.inl ((fun _ => lN 0))))), ((ad 8), .inl (cJ, 512, .inr (.inl ((fun _ => lN 0))))), ((ad 9), .inl (cJ, 512, .inr (.inl ((fun _ => lN 0))))), ((ad 10), .inl (cJ, 512, .inr (.inl ((fun _ => lN 0))))), (hm, .inr (2, [.null, .null, .null, .int (nI 0), .int (nI 0)]))] H := hP
  have hD : va_D A [(hd, .inr (0, [.ref ((ad 0)), .ref ((ad 1)), .ref ((ad 2)), .ref ((ad 3)), .ref ((ad 4)), .ref ((ad 5)), .ref ((ad 6)), .int (nI 0), .int (nI 0)])), ((ad 0), .inr (1, [.long (lN nt_P), .ref ((ad 7)), .ref ((ad 8))])), ((ad 1), .inr (1, [.long (lN nt_Q), .ref ((ad 9)), .ref ((ad 10))])), ((ad 2), .inl (cI, 256, .inl ((fun _ => nI 0)))), ((ad 3), .inl (cI, 256, .inl ((fun _ => nI 0)))), ((ad 4), .inl (cJ, 512, .inr (.inl ((fun _ => lN 0))))), ((ad 5), .inl (cJ, 512, .inr (.inl ((fun _ => lN 0))))), ((ad 6), .inl (cJ, 512, .inr (.inl ((fun _ => lN 0))))), ((ad 7), .inl (cJ, 512, .inr (.inl ((fun _ => lN 0))))), ((ad 8), .inl (cJ, 512, .inr (.inl ((fun _ => lN 0))))), ((ad 9), .inl (cJ, 512, .inr (.inl ((fun _ => lN 0))))), ((ad 10), .inl (cJ, 512, .inr (.inl ((fun _ => lN 0))))), (hm, .inr (2, [.null, .null, .null, .int (nI 0), .int (nI 0)]))] := hD
  refine lv_dup hx hb dL_law_11 rfl ?_
  refine k_cIv (own := R_law) (wr := [(hd, .inr (0, [.ref ((ad 0)), .ref ((ad 1)), .ref ((ad 2)), .ref ((ad 3)), .ref ((ad 4)), .ref ((ad 5)), .ref ((ad 6)), .int (nI 0), .int (nI 0)])), ((ad 0), .inr (1, [.long (lN nt_P), .ref ((ad 7)), .ref ((ad 8))])), ((ad 1), .inr (1, [.long (lN nt_Q), .ref ((ad 9)), .ref ((ad 10))])), ((ad 2), .inl (cI, 256, .inl ((fun _ => nI 0)))), ((ad 3), .inl (cI, 256, .inl ((fun _ => nI 0)))), ((ad 4), .inl (cJ, 512, .inr (.inl ((fun _ => lN 0))))), ((ad 5), .inl (cJ, 512, .inr (.inl ((fun _ => lN 0))))), ((ad 6), .inl (cJ, 512, .inr (.inl ((fun _ => lN 0))))), ((ad 7), .inl (cJ, 512, .inr (.inl ((fun _ => lN 0))))), ((ad 8), .inl (cJ, 512, .inr (.inl ((fun _ => lN 0))))), ((ad 9), .inl (cJ, 512, .inr (.inl ((fun _ => lN 0))))), ((ad 10), .inl (cJ, 512, .inr (.inl ((fun _ => lN 0)))))]) (wo := fun u => [(hd, .inr (0, [.ref ((ad 0)), .ref ((ad 1)), .ref ((ad 2)), .ref ((ad 3)), .ref ((ad 4)), .ref ((ad 5)), .ref ((ad 6)), .int (nI 0), .int (nI 0)])), ((ad 0), .inr (1, [.long (lN nt_P), .ref ((ad 7)), .ref ((ad 8))])), ((ad 1), .inr (1, [.long (lN nt_Q), .ref ((ad 9)), .ref ((ad 10))])), ((ad 2), .inl (cI, 256, .inl ((fun _ => nI 0)))), ((ad 3), .inl (cI, 256, .inl ((fun _ => nI 0)))), ((ad 4), .inl (cJ, 512, .inr (.inl ((fun _ => lN 0))))), ((ad 5), .inl (cJ, 512, .inr (.inl ((fun _ => lN 0))))), ((ad 6), .inl (cJ, 512, .inr (.inl ((fun _ => lN 0))))), ((ad 7), .inl (cJ, 512, .inr (.inl ((fun _ => lN 0))))), ((ad 8), .inl (cJ, 512, .inr (.inl ((fun _ => lN 0))))), ((ad 9), .inl (cJ, 512, .inr (.inl ((fun _ => lN 0))))), ((ad 10), .inl (cJ, 512, .inr (.inl ((fun _ => lN 0))))), (hm, .inr (2, [.ref (u.1 0), .ref (u.1 1), .ref (u.1 2), .int (nI 0), .int (nI 0)])), (u.1 0, .inl (u.2.1, 256, .inl ((fun _ => nI 0)))), (u.1 1, .inl (u.2.1, 256, .inl ((fun _ => nI 0)))), (u.1 2, .inl (u.2.2, 512, .inr (.inl ((fun _ => lN 0)))))]) C rfl (m_minit l D hm) (cwI 0 hts (lw_meth q158) rfl rfl rfl (hts _ q10) (hts _ q156) (hts _ q157) rfl (by decide +kernel) ⟨Nat.le_of_ble_eq_true rfl, Nat.le_of_ble_eq_true rfl⟩) hK hP hD hS hA [] rfl [12] [0, 1, 2, 3, 4, 5, 6, 7, 8, 9, 10, 11] rfl (by decide) rfl (by decide) (by decide) [0, 1, 2, 3, 4, 5, 6, 7, 8, 9, 10, 11, 12, 13, 14, 15] (fun _ => rfl) (by decide) rfl hl.1 rfl (Nat.le_of_ble_eq_true rfl) dL_law_12 ⟨Nat.le_of_ble_eq_true rfl, Nat.le_of_ble_eq_true rfl⟩ (fun u H locs hw hP hD hKn hS => ?_)
  obtain ⟨md, cI2, cJ2⟩ := u
  have hK9 : va_K D vwCl [(cI, .int), (cJ, .long), (cI2, .int), (cJ2, .long)] s := hK.app hKn
  obtain rfl : cI = cI2 := k_sameI hK9 0 2 rfl rfl
  obtain rfl : cJ = cJ2 := k_sameJ hK9 1 3 rfl rfl
  have hP : va_P D vwCl [(hd, .inr (0, [.ref ((ad 0)), .ref ((ad 1)), .ref ((ad 2)), .ref ((ad 3)), .ref ((ad 4)), .ref ((ad 5)), .ref ((ad 6)), .int (nI 0), .int (nI 0)])), ((ad 0), .inr (1, [.long (lN nt_P), .ref ((ad 7)), .ref ((ad 8))])), ((ad 1), .inr (1, [.long (lN nt_Q), .ref ((ad 9)), .ref ((ad 10))])), ((ad 2), .inl (cI, 256, .inl ((fun _ => nI 0)))), ((ad 3), .inl (cI, 256, .inl ((fun _ => nI 0)))), ((ad 4), .inl (cJ, 512, .inr (.inl ((fun _ => lN 0))))), ((ad 5), .inl (cJ, 512, .inr (.inl ((fun _ => lN 0))))), ((ad 6), .inl (cJ, 512, .inr (.inl ((fun _ => lN 0))))), ((ad 7), .inl (cJ, 512, .inr (.inl ((fun _ => lN 0))))), ((ad 8), .inl (cJ, 512, .inr (.inl ((fun _ => lN 0))))), ((ad 9), .inl (cJ, 512, .inr (.inl ((fun _ => lN 0))))), ((ad 10), .inl (cJ, 512, .inr (.inl ((fun _ => lN 0))))), (hm, .inr (2, [.ref ((md 0)), .ref ((md 1)), .ref ((md 2)), .int (nI 0), .int (nI 0)])), ((md 0), .inl (cI, 256, .inl ((fun _ => nI 0)))), ((md 1), .inl (cI, 256, .inl ((fun _ => nI 0)))), ((md 2), .inl (cJ, 512, .inr (.inl ((fun _ => lN 0)))))] H := hP
  have hD : va_D A [(hd, .inr (0, [.ref ((ad 0)), .ref ((ad 1)), .ref ((ad 2)), .ref ((ad 3)), .ref ((ad 4)), .ref ((ad 5)), .ref ((ad 6)), .int (nI 0), .int (nI 0)])), ((ad 0), .inr (1, [.long (lN nt_P), .ref ((ad 7)), .ref ((ad 8))])), ((ad 1), .inr (1, [.long (lN nt_Q), .ref ((ad 9)), .ref ((ad 10))])), ((ad 2), .inl (cI, 256, .inl ((fun _ => nI 0)))), ((ad 3), .inl (cI, 256, .inl ((fun _ => nI 0)))), ((ad 4), .inl (cJ, 512, .inr (.inl ((fun _ => lN 0))))), ((ad 5), .inl (cJ, 512, .inr (.inl ((fun _ => lN 0))))), ((ad 6), .inl (cJ, 512, .inr (.inl ((fun _ => lN 0))))), ((ad 7), .inl (cJ, 512, .inr (.inl ((fun _ => lN 0))))), ((ad 8), .inl (cJ, 512, .inr (.inl ((fun _ => lN 0))))), ((ad 9), .inl (cJ, 512, .inr (.inl ((fun _ => lN 0))))), ((ad 10), .inl (cJ, 512, .inr (.inl ((fun _ => lN 0))))), (hm, .inr (2, [.ref ((md 0)), .ref ((md 1)), .ref ((md 2)), .int (nI 0), .int (nI 0)])), ((md 0), .inl (cI, 256, .inl ((fun _ => nI 0)))), ((md 1), .inl (cI, 256, .inl ((fun _ => nI 0)))), ((md 2), .inl (cJ, 512, .inr (.inl ((fun _ => lN 0)))))] := hD
  refine lv_astore_n (lv' := [(2, .ref hm), (1, .ref hd), (0, .ref b)]) hx hb dL_law_15 rfl hl (by decide) rfl (fun ls hl => ?_)
  refine lv_iconst (v := nI 0) hx hb dL_law_16 (by decide) ?_
  refine lv_istore_n (lv' := [(3, .int (nI 0)), (2, .ref hm), (1, .ref hd), (0, .ref b)]) hx hb dL_law_17 rfl hl (by decide) rfl (fun ls hl => ?_)
  refine W.widen (k := 600000) (n := 7290000) (by decide) (by decide) ?_
  refine law_loop C hX hbl hbA hA hK hL (fun H locs ls hS => ?_) (L + 1) 0 H locs ls (by omega) (by omega) (lv_sub hl [3, 2, 1, 0] rfl) ⟨0, 0, _, _, _, _, _, _, _, _, _, _, by decide, by decide, fun j _ => by decide, fun j _ => by decide, fun j _ => rfl, hP, hD, hS⟩
  refine lv_iconst (v := 1) hx hb dL_law_301 (by decide) ?_
  refine va_forget (fun q hq => hAf _ (hS.2.2 q hq)) ?_
  exact lw_ret hx hb hr hlocks dL_law_302
-- ===== YOUR PART ENDS =====
set_option maxHeartbeats 4000000 in
theorem lw_walk (l : Launch) (b : Addr) (xs : List Int32) : MetFree l x (headSpec (Jvm.Cond.code x code maxLocals ret :: tables_1) room_1) (lw_P b xs) (fun _ _ _ _ _ => True) lw_Q := by
  refine MetFree.of_bodyS (code := code) (maxLocals := maxLocals) (ret := ret) (by decide) ?_ ?_
  · intro args s m h hn
    obtain ⟨meth, c, h1, h2, h3, h4, h5, h6, -, -⟩ := Cond.code_spec hn (atoms_spec (ws := Jvm.Cond.code x code maxLocals ret :: tables_1) h _ List.mem_cons_self)
    exact ⟨meth, c, h1, h2, h3, h4, h5, h6⟩
  · intro p e s m args below meth c s₁ B hml0 hP _
    obtain ⟨rfl, hx, hbd, hgv⟩ := hP
    obtain ⟨scr, harrAt, hlist, hof, hsmall⟩ := hx
    obtain ⟨hcb, hkn, -, -⟩ := State.arrayAt?_spec harrAt
    have hown : s.vm.findClass R_law = some m.cls := findClass_of_methodNamed B.named
    have hts0 : ∀ c ∈ (Jvm.Cond.code x code maxLocals ret :: tables_1), c.before #[Value.ref b] s = true := atoms_spec (ws := Jvm.Cond.code x code maxLocals ret :: tables_1) B.pre
    have hts : ∀ w ∈ lw_tbl, w.before #[Value.ref b] s = true := k2_hts_sels lw_privs (fun w hw => hts0 w (List.mem_cons_of_mem _ hw)) lw_privs_ok
    have hml : c.maxLocals = 4 := B.maxLocals_eq (hts0 _ List.mem_cons_self)
    have X₀ : Stand p l e room_1 s m #[Value.ref b] below meth c s₁ [] 0 0 := Stand.of_body B
    have hh0 : s₁.heap = s.heap := by rw [B.state]; rfl
    have hsz : scr.slots.size = xs.length := by rw [← Array.length_toList, hlist, List.length_map]
    have hval : ∀ j : Nat, j < xs.length → scr.slots[j]? = some (.int (xs.getD j 0)) := fun j hj => by
      rw [← Array.getElem?_toList, hlist]
      simp [hj]
    have hbl : b < s.heap.size := (Array.getElem?_eq_some_iff.mp hcb).1
    have hX : va_X b xs.length (fun j => xs.getD j 0) s s.heap := ⟨scr, hcb, hof, hkn, hsz, hval⟩
    have K : W p l e room_1 s m #[Value.ref b] below meth c s₁.heap [] 0 0 (lw_Z below #[Value.ref b] s) (entryFrame m ([Value.ref b] : List Value).toArray 4) := by
      rw [hh0]
      exact whole_start l hbd ⟨B.exec, B.bytes, B.returns, hml, hown, hts, hX, hbl, B.notSynchronized, hgv⟩
    obtain ⟨t, a1, o, b1, b2, b3⟩ := K s₁ rfl X₀
    exact ⟨t, o, a1, b1, b2, b3⟩
theorem lw_pre_spec {args : Array Value} {s : State} (h : (Jvm.Cond.and given_1 narrow_1).before args s = true) (hr : rest_1_c.before args s = true) : ∃ (b : Addr) (xs : List Int32), lw_P b xs args s := by
  have hs := flat_of_before _ h
  have hq := flat_of_before _ hr
  have hc : (Cond.count 1).before args s = true := hs _ (by decide +kernel)
  have harr : (Cond.arrayOf (.arg 0) .int).before args s = true := hs _ (by decide +kernel)
  have hle : (Cond.le (.length (.arg 0)) (.int 320)).before args s = true := hs _ (by decide +kernel)
  have hlen : (Cond.isInt (.length (.arg 0))).before args s = true := hq _ (by decide +kernel)
  have hall : (Cond.all (.arg 0) (.isInt (.elem (.arg 0) (.index 0)))).before args s = true := hq _ (by decide +kernel)
  obtain ⟨b, xs, hb, hx⟩ := State.ints_of_pre rfl harr hlen hall
  have hsm : xs.length < 2 ^ 31 := hx.choose_spec.2.2.2
  have hev : (Term.length (.arg 0)).eval args s none [] s = some (.int xs.length.toInt32) := hx.length_eval hb
  have hv := Cond.le_ints hev (show (Term.int 320).eval args s none [] s = some (.int 320) from rfl)
  have hd : xs.length.toInt32 ≤ 320 := by
    simpa [Cond.before, Cond.holds, hv] using hle
  have hN : xs.length ≤ 320 := (Int32.ofNat_le_ofNat hsm (by decide)).mp (show Int32.ofNat xs.length ≤ Int32.ofNat 320 from hd)
  exact ⟨b, xs, Cond.one_arg hc (show args[0]? = some (.ref b) from hb), hx, hN, h⟩
theorem lw_comes (l : Launch) : Comes l x (Jvm.Cond.code x code maxLocals ret :: tables_1) room_1 (fun tb e args s => Calls_1 tb e args s ∧ rest_1 tb e args s ∧ Pre_1 tb e args s)
    (fun _ _ args s o t => lw_Q args s o t) := by
  intro p e ha hc hk s m args below hf hfit hheap happ hpre
  obtain ⟨b, xs, hP⟩ := lw_pre_spec hpre.2.2 hpre.2.1
  obtain ⟨k, o, h1, h2, h3, hQ⟩ := lw_walk l b xs p e ha hc hk s m args below hf ((Spec.applies_iff_loose hf).mp happ).1 hP trivial
  exact ⟨k, o, h1, h2, h3, hQ⟩
theorem lw_frame {s t : State} {o : Outcome} {args : Array Value} (h : Framed s o t [] 600000 7290000) :
    Framed s o t (fieldLocs frame_1_writes args s ++ arrayLocs frame_1_arrays args s ++ staticLocs frame_1_statics s) 600000 7290000 := h
theorem lw_limb (L : Cond) (hL : ∀ (args : Array Value) (s t : State), L.after args s (.returned (some (.int 1))) t = true) :
    ArmFor flags0 classFile x code maxLocals ret World_1 tables_1 room_1 Calls_1 rest_1 Pre_1
      (fun tb e a s o t => postC L tb e a s o t ∧ Framed s o t (fieldLocs frame_1_writes a s ++ arrayLocs frame_1_arrays a s ++ staticLocs frame_1_statics s) 600000 7290000) := by
  intro l _ _ _ p e ha hc hk s m args below hf hfit hheap happ hpre
  obtain ⟨k, o, h1, h2, h3, rfl, hF⟩ := lw_comes l p e ha hc hk s m args below hf hfit hheap happ hpre
  exact ⟨k, _, h1, h2, h3, hL args s _, lw_frame hF⟩
theorem i_vc : Claimed_1_1 ∧ Claimed_1_2 := ⟨lw_limb limb_1_1 (fun args s t => by simp [limb_1_1, Cond.after, Cond.holds, Cond.value]), lw_limb limb_1_2 (fun args s t => Cond.after_iff.mpr (by
  first | (rw [show limb_1_2 = Cond.eq .result (.int 1) from rfl, Cond.eq_ints (x := 1) (y := 1) rfl rfl]; simp; done) | (simp [limb_1_2, Cond.value, Term.eval]; done)))⟩
end
