section
-- ===== PART A: goes FIRST, ahead of the names: the tables' words, and 'selects' of the private methods out of them =====
/-- a private method of a class that the tables say can be made, by its rows of tables_1 -/
def lw_okq (q : MethodName × Nat) : Prop := (q.1.cls ≠ "java/lang/invoke/MethodHandle" ∧ q.1.cls ≠ "java/lang/invoke/VarHandle") ∧ Cond.instantiable q.1.cls q.2 ∈ tables_1 ∧ Cond.privateMethod q.1 ∈ tables_1 ∧ Cond.instanceMethod q.1 ∈ tables_1
set_option maxRecDepth 100000
theorem lw_p0 : lw_okq (⟨"RotationSort", "period", "()I"⟩, 11) := ⟨⟨by decide +kernel, by decide +kernel⟩, List.mem_of_getElem? (i := 6) rfl, List.mem_of_getElem? (i := 75) rfl, List.mem_of_getElem? (i := 76) rfl⟩
theorem lw_p1 : lw_okq (⟨"RotationSort", "least", "(I)I"⟩, 11) := ⟨⟨by decide +kernel, by decide +kernel⟩, List.mem_of_getElem? (i := 6) rfl, List.mem_of_getElem? (i := 79) rfl, List.mem_of_getElem? (i := 80) rfl⟩
theorem lw_p2 : lw_okq (⟨"RotationSort", "name", "(II)I"⟩, 11) := ⟨⟨by decide +kernel, by decide +kernel⟩, List.mem_of_getElem? (i := 6) rfl, List.mem_of_getElem? (i := 83) rfl, List.mem_of_getElem? (i := 84) rfl⟩
theorem lw_p3 : lw_okq (⟨"RotationSort$Suffixes", "pass", "([I[I[IIII)V"⟩, 1) := ⟨⟨by decide +kernel, by decide +kernel⟩, List.mem_of_getElem? (i := 14) rfl, List.mem_of_getElem? (i := 91) rfl, List.mem_of_getElem? (i := 92) rfl⟩
theorem lw_p4 : lw_okq (⟨"RotationSort$Suffixes", "named", "([I[I[III)I"⟩, 1) := ⟨⟨by decide +kernel, by decide +kernel⟩, List.mem_of_getElem? (i := 14) rfl, List.mem_of_getElem? (i := 95) rfl, List.mem_of_getElem? (i := 96) rfl⟩
theorem lw_p5 : lw_okq (⟨"RotationSort$Suffixes", "merge", "([I[II[I[I[I)V"⟩, 1) := ⟨⟨by decide +kernel, by decide +kernel⟩, List.mem_of_getElem? (i := 14) rfl, List.mem_of_getElem? (i := 100) rfl, List.mem_of_getElem? (i := 101) rfl⟩
theorem lw_p6 : lw_okq (⟨"RotationSort", "goBack", "(I)V"⟩, 11) := ⟨⟨by decide +kernel, by decide +kernel⟩, List.mem_of_getElem? (i := 6) rfl, List.mem_of_getElem? (i := 110) rfl, List.mem_of_getElem? (i := 111) rfl⟩
theorem lw_p7 : lw_okq (⟨"RotationSortModel", "before", "(II)Z"⟩, 6) := ⟨⟨by decide +kernel, by decide +kernel⟩, List.mem_of_getElem? (i := 126) rfl, List.mem_of_getElem? (i := 164) rfl, List.mem_of_getElem? (i := 165) rfl⟩
def lw_privs_1 : List (MethodName × Nat) := [(⟨"RotationSort", "period", "()I"⟩, 11), (⟨"RotationSort", "least", "(I)I"⟩, 11), (⟨"RotationSort", "name", "(II)I"⟩, 11), (⟨"RotationSort$Suffixes", "pass", "([I[I[IIII)V"⟩, 1), (⟨"RotationSort$Suffixes", "named", "([I[I[III)I"⟩, 1), (⟨"RotationSort$Suffixes", "merge", "([I[II[I[I[I)V"⟩, 1), (⟨"RotationSort", "goBack", "(I)V"⟩, 11), (⟨"RotationSortModel", "before", "(II)Z"⟩, 6)]
theorem lw_r1 : ∀ q ∈ lw_privs_1, lw_okq q := List.forall_mem_cons.mpr ⟨lw_p0, List.forall_mem_cons.mpr ⟨lw_p1, List.forall_mem_cons.mpr ⟨lw_p2, List.forall_mem_cons.mpr ⟨lw_p3, List.forall_mem_cons.mpr ⟨lw_p4, List.forall_mem_cons.mpr ⟨lw_p5, List.forall_mem_cons.mpr ⟨lw_p6, List.forall_mem_cons.mpr ⟨lw_p7, fun _ h => absurd h List.not_mem_nil⟩⟩⟩⟩⟩⟩⟩⟩
def lw_privs : List (MethodName × Nat) := lw_privs_1
def lw_tbl : List Cond := k2_sels lw_privs ++ tables_1
theorem lw_privs_ok : ∀ q ∈ lw_privs, lw_okq q := lw_r1
-- ===== ONE list of words for every method: the tables' words that hold all through a run =====
def lw_all : List Cond := lw_tbl.filter goodWord
/-- a word of the tables by its place: claim/WORDS.tsv -/
theorem lw_w {w : Cond} (i : Nat) (h : lw_tbl[i]? = some w) (g : goodWord w = true) : w ∈ lw_all := List.mem_filter.mpr ⟨List.mem_of_getElem? h, g⟩
theorem lw_all_tbl {w : Cond} (h : w ∈ lw_all) : w ∈ lw_tbl := (List.mem_filter.mp h).1
theorem lw_self : GoodIn lw_all lw_all := fun w h => ⟨h, good_of_word (List.mem_filter.mp h).2⟩
/-- a class's field words, by their places -/
theorem lw_in (ws : List Cond) (ps : List Nat) (hp : ws = ps.filterMap (fun i => lw_tbl[i]?)) (hg : ws.all goodWord = true) : ∀ w ∈ ws, w ∈ lw_all := by
  intro w h
  have h1 := List.all_eq_true.mp hg w h
  rw [hp] at h
  obtain ⟨i, -, hi⟩ := List.mem_filterMap.mp h
  exact lw_w i hi h1
/-- the words of a contract for the method y with code b, L locals, answer r -/
abbrev ws_ (y : MethodName) (b : ByteArray) (L : Nat) (r : Option FieldType) : List Cond := Cond.code y b L r :: lw_all
theorem lw_meth {y : MethodName} {b : ByteArray} {L : Nat} {r : Option FieldType} (h : Cond.code y b L r ∈ lw_all) : GoodIn lw_all (ws_ y b L r) := by
  intro w hw
  rcases List.mem_cons.mp hw with e | e
  · rw [e]
    exact lw_self _ h
  · exact lw_self _ e
theorem lw_app {a c : List Cond} (ha : ∀ w ∈ a, w ∈ lw_all) (hc : GoodIn lw_all c) : GoodIn lw_all (a ++ c) := by
  intro w hw
  rcases List.mem_append.mp hw with e | e
  · exact lw_self w (ha w e)
  · exact hc w e
/-- what a call through an object asks: cwV n hts (lw_V ..) -/
theorem lw_V {own : String} {idx : Nat} {C : String} {y : MethodName} {b : ByteArray} {L : Nat} {r : Option FieldType} (h1 : Cond.methodLink own idx y ∈ lw_all) (h2 : Cond.instanceMethod y ∈ lw_all) (h3 : Cond.selects C y y ∈ lw_all) (h4 : Cond.initialized C ∈ lw_all) (h5 : Cond.code y b L r ∈ lw_all) : GoodIn lw_all (wsV own idx C y (ws_ y b L r)) := by
  refine lw_app ?_ (lw_meth h5)
  intro w hw
  simp only [List.mem_cons, List.not_mem_nil, or_false] at hw
  rcases hw with e | e | e | e
  · rw [e]; exact h1
  · rw [e]; exact h2
  · rw [e]; exact h3
  · rw [e]; exact h4
/-- what a static call asks: va_cwS n hts (lw_S ..) -/
theorem lw_S {own : String} {idx : Nat} {y : MethodName} {b : ByteArray} {L : Nat} {r : Option FieldType} (h1 : Cond.methodLink own idx y ∈ lw_all) (h2 : Cond.static y ∈ lw_all) (h3 : Cond.initialized y.cls ∈ lw_all) (h4 : Cond.code y b L r ∈ lw_all) : GoodIn lw_all (va_wsS own idx y (ws_ y b L r)) := by
  refine lw_app ?_ (lw_meth h4)
  intro w hw
  simp only [List.mem_cons, List.not_mem_nil, or_false] at hw
  rcases hw with e | e | e
  · rw [e]; exact h1
  · rw [e]; exact h2
  · rw [e]; exact h3
/-- the words of a contract for a method WITH HANDLERS (hh: its table) -/
abbrev wsW_ (y : MethodName) (b : ByteArray) (L : Nat) (r : Option FieldType) (hh : List (Nat × Nat × Nat × Nat)) : List Cond := Cond.codeWith y b L r hh :: lw_all
theorem lw_methW {y : MethodName} {b : ByteArray} {L : Nat} {r : Option FieldType} {hh : List (Nat × Nat × Nat × Nat)} (h : Cond.codeWith y b L r hh ∈ lw_all) : GoodIn lw_all (wsW_ y b L r hh) := by
  intro w hw
  rcases List.mem_cons.mp hw with e | e
  · rw [e]
    exact lw_self _ h
  · exact lw_self _ e
/-- any list of words by their places (lw_in), good -/
theorem lw_good {ws : List Cond} (h : ∀ w ∈ ws, w ∈ lw_all) : GoodIn lw_all ws := fun w hw => lw_self w (h w hw)
/-- what a call of a method with handlers asks: vx_cwVW n hts (lw_VW ..), vx_cwSW n hts (lw_SW ..) -/
theorem lw_VW {own : String} {idx : Nat} {C : String} {y : MethodName} {b : ByteArray} {L : Nat} {r : Option FieldType} {hh : List (Nat × Nat × Nat × Nat)} (h1 : Cond.methodLink own idx y ∈ lw_all) (h2 : Cond.instanceMethod y ∈ lw_all) (h3 : Cond.selects C y y ∈ lw_all) (h4 : Cond.initialized C ∈ lw_all) (h5 : Cond.codeWith y b L r hh ∈ lw_all) : GoodIn lw_all (wsV own idx C y (wsW_ y b L r hh)) := by
  refine lw_app ?_ (lw_methW h5)
  intro w hw
  simp only [List.mem_cons, List.not_mem_nil, or_false] at hw
  rcases hw with e | e | e | e
  · rw [e]; exact h1
  · rw [e]; exact h2
  · rw [e]; exact h3
  · rw [e]; exact h4
theorem lw_SW {own : String} {idx : Nat} {y : MethodName} {b : ByteArray} {L : Nat} {r : Option FieldType} {hh : List (Nat × Nat × Nat × Nat)} (h1 : Cond.methodLink own idx y ∈ lw_all) (h2 : Cond.static y ∈ lw_all) (h3 : Cond.initialized y.cls ∈ lw_all) (h4 : Cond.codeWith y b L r hh ∈ lw_all) : GoodIn lw_all (va_wsS own idx y (wsW_ y b L r hh)) := by
  refine lw_app ?_ (lw_methW h4)
  intro w hw
  simp only [List.mem_cons, List.not_mem_nil, or_false] at hw
  rcases hw with e | e | e
  · rw [e]; exact h1
  · rw [e]; exact h2
  · rw [e]; exact h3
/-- a word by its place in its run of the tables -/
theorem lw_at {r : List Cond} (hr : ∀ w ∈ r, w ∈ lw_tbl) {w : Cond} (i : Nat) (h : r[i]? = some w) : w ∈ lw_tbl := hr w (List.mem_of_getElem? h)
theorem lw_g {w : Cond} (h : w ∈ lw_tbl) (g : goodWord w = true) : w ∈ lw_all := List.mem_filter.mpr ⟨h, g⟩
theorem lw_ms : ∀ w ∈ k2_sels lw_privs, w ∈ lw_tbl := fun w h => show w ∈ k2_sels lw_privs ++ tables_1 from List.mem_append_left _ h
theorem lw_m0 : ∀ w ∈ tables_1, w ∈ lw_tbl := fun w h => show w ∈ k2_sels lw_privs ++ tables_1 from List.mem_append_right (k2_sels lw_privs) h
theorem qs0 : (Cond.selects "RotationSort" ⟨"RotationSort", "period", "()I"⟩ ⟨"RotationSort", "period", "()I"⟩) ∈ lw_all := lw_g (lw_at lw_ms 0 rfl) rfl
theorem qs1 : (Cond.selects "RotationSort" ⟨"RotationSort", "least", "(I)I"⟩ ⟨"RotationSort", "least", "(I)I"⟩) ∈ lw_all := lw_g (lw_at lw_ms 1 rfl) rfl
theorem qs2 : (Cond.selects "RotationSort" ⟨"RotationSort", "name", "(II)I"⟩ ⟨"RotationSort", "name", "(II)I"⟩) ∈ lw_all := lw_g (lw_at lw_ms 2 rfl) rfl
theorem qs3 : (Cond.selects "RotationSort$Suffixes" ⟨"RotationSort$Suffixes", "pass", "([I[I[IIII)V"⟩ ⟨"RotationSort$Suffixes", "pass", "([I[I[IIII)V"⟩) ∈ lw_all := lw_g (lw_at lw_ms 3 rfl) rfl
theorem qs4 : (Cond.selects "RotationSort$Suffixes" ⟨"RotationSort$Suffixes", "named", "([I[I[III)I"⟩ ⟨"RotationSort$Suffixes", "named", "([I[I[III)I"⟩) ∈ lw_all := lw_g (lw_at lw_ms 4 rfl) rfl
theorem qs5 : (Cond.selects "RotationSort$Suffixes" ⟨"RotationSort$Suffixes", "merge", "([I[II[I[I[I)V"⟩ ⟨"RotationSort$Suffixes", "merge", "([I[II[I[I[I)V"⟩) ∈ lw_all := lw_g (lw_at lw_ms 5 rfl) rfl
theorem qs6 : (Cond.selects "RotationSort" ⟨"RotationSort", "goBack", "(I)V"⟩ ⟨"RotationSort", "goBack", "(I)V"⟩) ∈ lw_all := lw_g (lw_at lw_ms 6 rfl) rfl
theorem qs7 : (Cond.selects "RotationSortModel" ⟨"RotationSortModel", "before", "(II)Z"⟩ ⟨"RotationSortModel", "before", "(II)Z"⟩) ∈ lw_all := lw_g (lw_at lw_ms 7 rfl) rfl
end
section
/-! RotationSort -/
set_option maxRecDepth 100000
def RX0 : String := "RotationSort"
def TX0 : u_T := fun k => match k with
  | 0 => ("RotationSort", "text", "[I", true)
  | 1 => ("RotationSort", "size", "I", false)
  | 2 => ("RotationSort", "column", "[I", true)
  | 3 => ("RotationSort", "kept", "[I", true)
  | 4 => ("RotationSort", "turned", "I", false)
  | 5 => ("RotationSort", "suffixes", "LRotationSort$Suffixes;", true)
  | 6 => ("RotationSort", "border", "[I", true)
  | 7 => ("RotationSort", "root", "[I", true)
  | 8 => ("RotationSort", "order", "[I", true)
  | 9 => ("RotationSort", "names", "[I", true)
  | _ => ("RotationSort", "link", "[I", true)
def tyX0 : Nat → FieldType := fun k => match k with
  | 0 => .array .int
  | 1 => .int
  | 2 => .array .int
  | 3 => .array .int
  | 4 => .int
  | 5 => .object "RotationSort$Suffixes"
  | 6 => .array .int
  | 7 => .array .int
  | 8 => .array .int
  | 9 => .array .int
  | _ => .array .int
abbrev wsX00 : List Cond := u_ws RX0 TX0 11
theorem nmX0 : ∀ a, a < 11 → ∀ b, b < 11 → a ≠ b → (TX0 a).2.1 ≠ (TX0 b).2.1 := by decide +kernel
theorem tyX0_ok : ∀ k, k < 11 → parseFieldDescriptor (TX0 k).2.2.1 = some (tyX0 k) := by decide +kernel
abbrev cX0_init : ByteArray := prog_1_method_1_code
def yX0_init : MethodName := ⟨RX0, "<init>", "()V"⟩
theorem dX0_init_0 : decode cX0_init 0 = .ok (.aload_n 0, 1) := by decide +kernel
theorem dX0_init_1 : decode cX0_init 1 = .ok (.invokespecial 1, 3) := by decide +kernel
theorem dX0_init_4 : decode cX0_init 4 = .ok (.aload_n 0, 1) := by decide +kernel
theorem dX0_init_5 : decode cX0_init 5 = .ok (.sipush 256, 3) := by decide +kernel
theorem dX0_init_8 : decode cX0_init 8 = .ok (.newarray .int, 2) := by decide +kernel
theorem dX0_init_10 : decode cX0_init 10 = .ok (.putfield 9, 3) := by decide +kernel
theorem dX0_init_13 : decode cX0_init 13 = .ok (.aload_n 0, 1) := by decide +kernel
theorem dX0_init_14 : decode cX0_init 14 = .ok (.sipush 256, 3) := by decide +kernel
theorem dX0_init_17 : decode cX0_init 17 = .ok (.newarray .int, 2) := by decide +kernel
theorem dX0_init_19 : decode cX0_init 19 = .ok (.putfield 13, 3) := by decide +kernel
theorem dX0_init_22 : decode cX0_init 22 = .ok (.aload_n 0, 1) := by decide +kernel
theorem dX0_init_23 : decode cX0_init 23 = .ok (.sipush 256, 3) := by decide +kernel
theorem dX0_init_26 : decode cX0_init 26 = .ok (.newarray .int, 2) := by decide +kernel
theorem dX0_init_28 : decode cX0_init 28 = .ok (.putfield 16, 3) := by decide +kernel
theorem dX0_init_31 : decode cX0_init 31 = .ok (.aload_n 0, 1) := by decide +kernel
theorem dX0_init_32 : decode cX0_init 32 = .ok (.new 19, 3) := by decide +kernel
theorem dX0_init_35 : decode cX0_init 35 = .ok (.dup, 1) := by decide +kernel
theorem dX0_init_36 : decode cX0_init 36 = .ok (.invokespecial 21, 3) := by decide +kernel
theorem dX0_init_39 : decode cX0_init 39 = .ok (.putfield 22, 3) := by decide +kernel
theorem dX0_init_42 : decode cX0_init 42 = .ok (.aload_n 0, 1) := by decide +kernel
theorem dX0_init_43 : decode cX0_init 43 = .ok (.sipush 257, 3) := by decide +kernel
theorem dX0_init_46 : decode cX0_init 46 = .ok (.newarray .int, 2) := by decide +kernel
theorem dX0_init_48 : decode cX0_init 48 = .ok (.putfield 26, 3) := by decide +kernel
theorem dX0_init_51 : decode cX0_init 51 = .ok (.aload_n 0, 1) := by decide +kernel
theorem dX0_init_52 : decode cX0_init 52 = .ok (.sipush 260, 3) := by decide +kernel
theorem dX0_init_55 : decode cX0_init 55 = .ok (.newarray .int, 2) := by decide +kernel
theorem dX0_init_57 : decode cX0_init 57 = .ok (.putfield 29, 3) := by decide +kernel
theorem dX0_init_60 : decode cX0_init 60 = .ok (.aload_n 0, 1) := by decide +kernel
theorem dX0_init_61 : decode cX0_init 61 = .ok (.sipush 260, 3) := by decide +kernel
theorem dX0_init_64 : decode cX0_init 64 = .ok (.newarray .int, 2) := by decide +kernel
theorem dX0_init_66 : decode cX0_init 66 = .ok (.putfield 32, 3) := by decide +kernel
theorem dX0_init_69 : decode cX0_init 69 = .ok (.aload_n 0, 1) := by decide +kernel
theorem dX0_init_70 : decode cX0_init 70 = .ok (.sipush 257, 3) := by decide +kernel
theorem dX0_init_73 : decode cX0_init 73 = .ok (.newarray .int, 2) := by decide +kernel
theorem dX0_init_75 : decode cX0_init 75 = .ok (.putfield 35, 3) := by decide +kernel
theorem dX0_init_78 : decode cX0_init 78 = .ok (.aload_n 0, 1) := by decide +kernel
theorem dX0_init_79 : decode cX0_init 79 = .ok (.sipush 256, 3) := by decide +kernel
theorem dX0_init_82 : decode cX0_init 82 = .ok (.newarray .int, 2) := by decide +kernel
theorem dX0_init_84 : decode cX0_init 84 = .ok (.putfield 38, 3) := by decide +kernel
theorem dX0_init_87 : decode cX0_init 87 = .ok (.return_, 1) := by decide +kernel
abbrev cX0_put : ByteArray := prog_1_method_2_code
def yX0_put : MethodName := ⟨RX0, "put", "(IIII)I"⟩
theorem dX0_put_0 : decode cX0_put 0 = .ok (.aload_n 0, 1) := by decide +kernel
theorem dX0_put_1 : decode cX0_put 1 = .ok (.getfield 41, 3) := by decide +kernel
theorem dX0_put_4 : decode cX0_put 4 = .ok (.sipush 252, 3) := by decide +kernel
theorem dX0_put_7 : decode cX0_put 7 = .ok (.if_icmp .le 5, 3) := by decide +kernel
theorem dX0_put_10 : decode cX0_put 10 = .ok (.iconst (-1), 1) := by decide +kernel
theorem dX0_put_11 : decode cX0_put 11 = .ok (.ireturn, 1) := by decide +kernel
theorem dX0_put_12 : decode cX0_put 12 = .ok (.aload_n 0, 1) := by decide +kernel
theorem dX0_put_13 : decode cX0_put 13 = .ok (.getfield 9, 3) := by decide +kernel
theorem dX0_put_16 : decode cX0_put 16 = .ok (.aload_n 0, 1) := by decide +kernel
theorem dX0_put_17 : decode cX0_put 17 = .ok (.getfield 41, 3) := by decide +kernel
theorem dX0_put_20 : decode cX0_put 20 = .ok (.iload_n 1, 1) := by decide +kernel
theorem dX0_put_21 : decode cX0_put 21 = .ok (.sipush 255, 3) := by decide +kernel
theorem dX0_put_24 : decode cX0_put 24 = .ok (.iand, 1) := by decide +kernel
theorem dX0_put_25 : decode cX0_put 25 = .ok (.iastore, 1) := by decide +kernel
theorem dX0_put_26 : decode cX0_put 26 = .ok (.aload_n 0, 1) := by decide +kernel
theorem dX0_put_27 : decode cX0_put 27 = .ok (.getfield 9, 3) := by decide +kernel
theorem dX0_put_30 : decode cX0_put 30 = .ok (.aload_n 0, 1) := by decide +kernel
theorem dX0_put_31 : decode cX0_put 31 = .ok (.getfield 41, 3) := by decide +kernel
theorem dX0_put_34 : decode cX0_put 34 = .ok (.iconst 1, 1) := by decide +kernel
theorem dX0_put_35 : decode cX0_put 35 = .ok (.iadd, 1) := by decide +kernel
theorem dX0_put_36 : decode cX0_put 36 = .ok (.iload_n 2, 1) := by decide +kernel
theorem dX0_put_37 : decode cX0_put 37 = .ok (.sipush 255, 3) := by decide +kernel
theorem dX0_put_40 : decode cX0_put 40 = .ok (.iand, 1) := by decide +kernel
theorem dX0_put_41 : decode cX0_put 41 = .ok (.iastore, 1) := by decide +kernel
theorem dX0_put_42 : decode cX0_put 42 = .ok (.aload_n 0, 1) := by decide +kernel
theorem dX0_put_43 : decode cX0_put 43 = .ok (.getfield 9, 3) := by decide +kernel
theorem dX0_put_46 : decode cX0_put 46 = .ok (.aload_n 0, 1) := by decide +kernel
theorem dX0_put_47 : decode cX0_put 47 = .ok (.getfield 41, 3) := by decide +kernel
theorem dX0_put_50 : decode cX0_put 50 = .ok (.iconst 2, 1) := by decide +kernel
theorem dX0_put_51 : decode cX0_put 51 = .ok (.iadd, 1) := by decide +kernel
theorem dX0_put_52 : decode cX0_put 52 = .ok (.iload_n 3, 1) := by decide +kernel
theorem dX0_put_53 : decode cX0_put 53 = .ok (.sipush 255, 3) := by decide +kernel
theorem dX0_put_56 : decode cX0_put 56 = .ok (.iand, 1) := by decide +kernel
theorem dX0_put_57 : decode cX0_put 57 = .ok (.iastore, 1) := by decide +kernel
theorem dX0_put_58 : decode cX0_put 58 = .ok (.aload_n 0, 1) := by decide +kernel
theorem dX0_put_59 : decode cX0_put 59 = .ok (.getfield 9, 3) := by decide +kernel
theorem dX0_put_62 : decode cX0_put 62 = .ok (.aload_n 0, 1) := by decide +kernel
theorem dX0_put_63 : decode cX0_put 63 = .ok (.getfield 41, 3) := by decide +kernel
theorem dX0_put_66 : decode cX0_put 66 = .ok (.iconst 3, 1) := by decide +kernel
theorem dX0_put_67 : decode cX0_put 67 = .ok (.iadd, 1) := by decide +kernel
theorem dX0_put_68 : decode cX0_put 68 = .ok (.iload 4, 2) := by decide +kernel
theorem dX0_put_70 : decode cX0_put 70 = .ok (.sipush 255, 3) := by decide +kernel
theorem dX0_put_73 : decode cX0_put 73 = .ok (.iand, 1) := by decide +kernel
theorem dX0_put_74 : decode cX0_put 74 = .ok (.iastore, 1) := by decide +kernel
theorem dX0_put_75 : decode cX0_put 75 = .ok (.aload_n 0, 1) := by decide +kernel
theorem dX0_put_76 : decode cX0_put 76 = .ok (.dup, 1) := by decide +kernel
theorem dX0_put_77 : decode cX0_put 77 = .ok (.getfield 41, 3) := by decide +kernel
theorem dX0_put_80 : decode cX0_put 80 = .ok (.iconst 4, 1) := by decide +kernel
theorem dX0_put_81 : decode cX0_put 81 = .ok (.iadd, 1) := by decide +kernel
theorem dX0_put_82 : decode cX0_put 82 = .ok (.putfield 41, 3) := by decide +kernel
theorem dX0_put_85 : decode cX0_put 85 = .ok (.aload_n 0, 1) := by decide +kernel
theorem dX0_put_86 : decode cX0_put 86 = .ok (.getfield 41, 3) := by decide +kernel
theorem dX0_put_89 : decode cX0_put 89 = .ok (.ireturn, 1) := by decide +kernel
abbrev cX0_repeat : ByteArray := prog_1_method_3_code
def yX0_repeat : MethodName := ⟨RX0, "repeat", "(II)I"⟩
theorem dX0_repeat_0 : decode cX0_repeat 0 = .ok (.aload_n 0, 1) := by decide +kernel
theorem dX0_repeat_1 : decode cX0_repeat 1 = .ok (.getfield 41, 3) := by decide +kernel
theorem dX0_repeat_4 : decode cX0_repeat 4 = .ok (.ifCond .ne 5, 3) := by decide +kernel
theorem dX0_repeat_7 : decode cX0_repeat 7 = .ok (.iconst (-1), 1) := by decide +kernel
theorem dX0_repeat_8 : decode cX0_repeat 8 = .ok (.ireturn, 1) := by decide +kernel
theorem dX0_repeat_9 : decode cX0_repeat 9 = .ok (.iload_n 1, 1) := by decide +kernel
theorem dX0_repeat_10 : decode cX0_repeat 10 = .ok (.ldc 47, 2) := by decide +kernel
theorem dX0_repeat_12 : decode cX0_repeat 12 = .ok (.iand, 1) := by decide +kernel
theorem dX0_repeat_13 : decode cX0_repeat 13 = .ok (.aload_n 0, 1) := by decide +kernel
theorem dX0_repeat_14 : decode cX0_repeat 14 = .ok (.getfield 41, 3) := by decide +kernel
theorem dX0_repeat_17 : decode cX0_repeat 17 = .ok (.irem, 1) := by decide +kernel
theorem dX0_repeat_18 : decode cX0_repeat 18 = .ok (.istore_n 3, 1) := by decide +kernel
theorem dX0_repeat_19 : decode cX0_repeat 19 = .ok (.iload_n 2, 1) := by decide +kernel
theorem dX0_repeat_20 : decode cX0_repeat 20 = .ok (.ldc 47, 2) := by decide +kernel
theorem dX0_repeat_22 : decode cX0_repeat 22 = .ok (.iand, 1) := by decide +kernel
theorem dX0_repeat_23 : decode cX0_repeat 23 = .ok (.sipush 129, 3) := by decide +kernel
theorem dX0_repeat_26 : decode cX0_repeat 26 = .ok (.irem, 1) := by decide +kernel
theorem dX0_repeat_27 : decode cX0_repeat 27 = .ok (.sipush 256, 3) := by decide +kernel
theorem dX0_repeat_30 : decode cX0_repeat 30 = .ok (.aload_n 0, 1) := by decide +kernel
theorem dX0_repeat_31 : decode cX0_repeat 31 = .ok (.getfield 41, 3) := by decide +kernel
theorem dX0_repeat_34 : decode cX0_repeat 34 = .ok (.isub, 1) := by decide +kernel
theorem dX0_repeat_35 : decode cX0_repeat 35 = .ok (.invokestatic 48, 3) := by decide +kernel
theorem dX0_repeat_38 : decode cX0_repeat 38 = .ok (.istore 4, 2) := by decide +kernel
theorem dX0_repeat_40 : decode cX0_repeat 40 = .ok (.iconst 0, 1) := by decide +kernel
theorem dX0_repeat_41 : decode cX0_repeat 41 = .ok (.istore 5, 2) := by decide +kernel
theorem dX0_repeat_43 : decode cX0_repeat 43 = .ok (.iload 5, 2) := by decide +kernel
theorem dX0_repeat_45 : decode cX0_repeat 45 = .ok (.iload 4, 2) := by decide +kernel
theorem dX0_repeat_47 : decode cX0_repeat 47 = .ok (.if_icmp .ge 37, 3) := by decide +kernel
theorem dX0_repeat_50 : decode cX0_repeat 50 = .ok (.aload_n 0, 1) := by decide +kernel
theorem dX0_repeat_51 : decode cX0_repeat 51 = .ok (.getfield 9, 3) := by decide +kernel
theorem dX0_repeat_54 : decode cX0_repeat 54 = .ok (.aload_n 0, 1) := by decide +kernel
theorem dX0_repeat_55 : decode cX0_repeat 55 = .ok (.getfield 41, 3) := by decide +kernel
theorem dX0_repeat_58 : decode cX0_repeat 58 = .ok (.aload_n 0, 1) := by decide +kernel
theorem dX0_repeat_59 : decode cX0_repeat 59 = .ok (.getfield 9, 3) := by decide +kernel
theorem dX0_repeat_62 : decode cX0_repeat 62 = .ok (.iload_n 3, 1) := by decide +kernel
theorem dX0_repeat_63 : decode cX0_repeat 63 = .ok (.iload 5, 2) := by decide +kernel
theorem dX0_repeat_65 : decode cX0_repeat 65 = .ok (.iadd, 1) := by decide +kernel
theorem dX0_repeat_66 : decode cX0_repeat 66 = .ok (.iaload, 1) := by decide +kernel
theorem dX0_repeat_67 : decode cX0_repeat 67 = .ok (.iastore, 1) := by decide +kernel
theorem dX0_repeat_68 : decode cX0_repeat 68 = .ok (.aload_n 0, 1) := by decide +kernel
theorem dX0_repeat_69 : decode cX0_repeat 69 = .ok (.dup, 1) := by decide +kernel
theorem dX0_repeat_70 : decode cX0_repeat 70 = .ok (.getfield 41, 3) := by decide +kernel
theorem dX0_repeat_73 : decode cX0_repeat 73 = .ok (.iconst 1, 1) := by decide +kernel
theorem dX0_repeat_74 : decode cX0_repeat 74 = .ok (.iadd, 1) := by decide +kernel
theorem dX0_repeat_75 : decode cX0_repeat 75 = .ok (.putfield 41, 3) := by decide +kernel
theorem dX0_repeat_78 : decode cX0_repeat 78 = .ok (.iinc 5 1, 3) := by decide +kernel
theorem dX0_repeat_81 : decode cX0_repeat 81 = .ok (.goto (-38), 3) := by decide +kernel
theorem dX0_repeat_84 : decode cX0_repeat 84 = .ok (.iload 4, 2) := by decide +kernel
theorem dX0_repeat_86 : decode cX0_repeat 86 = .ok (.ireturn, 1) := by decide +kernel
abbrev cX0_turn : ByteArray := prog_1_method_7_code
def yX0_turn : MethodName := ⟨RX0, "turn", "()Z"⟩
theorem dX0_turn_0 : decode cX0_turn 0 = .ok (.aload_n 0, 1) := by decide +kernel
theorem dX0_turn_1 : decode cX0_turn 1 = .ok (.getfield 41, 3) := by decide +kernel
theorem dX0_turn_4 : decode cX0_turn 4 = .ok (.iconst 2, 1) := by decide +kernel
theorem dX0_turn_5 : decode cX0_turn 5 = .ok (.if_icmp .ge 5, 3) := by decide +kernel
theorem dX0_turn_8 : decode cX0_turn 8 = .ok (.iconst 0, 1) := by decide +kernel
theorem dX0_turn_9 : decode cX0_turn 9 = .ok (.ireturn, 1) := by decide +kernel
theorem dX0_turn_10 : decode cX0_turn 10 = .ok (.aload_n 0, 1) := by decide +kernel
theorem dX0_turn_11 : decode cX0_turn 11 = .ok (.invokevirtual 54, 3) := by decide +kernel
theorem dX0_turn_14 : decode cX0_turn 14 = .ok (.istore_n 1, 1) := by decide +kernel
theorem dX0_turn_15 : decode cX0_turn 15 = .ok (.aload_n 0, 1) := by decide +kernel
theorem dX0_turn_16 : decode cX0_turn 16 = .ok (.iload_n 1, 1) := by decide +kernel
theorem dX0_turn_17 : decode cX0_turn 17 = .ok (.invokevirtual 58, 3) := by decide +kernel
theorem dX0_turn_20 : decode cX0_turn 20 = .ok (.istore_n 2, 1) := by decide +kernel
theorem dX0_turn_21 : decode cX0_turn 21 = .ok (.aload_n 0, 1) := by decide +kernel
theorem dX0_turn_22 : decode cX0_turn 22 = .ok (.iload_n 1, 1) := by decide +kernel
theorem dX0_turn_23 : decode cX0_turn 23 = .ok (.iload_n 2, 1) := by decide +kernel
theorem dX0_turn_24 : decode cX0_turn 24 = .ok (.invokevirtual 62, 3) := by decide +kernel
theorem dX0_turn_27 : decode cX0_turn 27 = .ok (.istore_n 3, 1) := by decide +kernel
theorem dX0_turn_28 : decode cX0_turn 28 = .ok (.aload_n 0, 1) := by decide +kernel
theorem dX0_turn_29 : decode cX0_turn 29 = .ok (.getfield 22, 3) := by decide +kernel
theorem dX0_turn_32 : decode cX0_turn 32 = .ok (.aload_n 0, 1) := by decide +kernel
theorem dX0_turn_33 : decode cX0_turn 33 = .ok (.getfield 29, 3) := by decide +kernel
theorem dX0_turn_36 : decode cX0_turn 36 = .ok (.aload_n 0, 1) := by decide +kernel
theorem dX0_turn_37 : decode cX0_turn 37 = .ok (.getfield 32, 3) := by decide +kernel
theorem dX0_turn_40 : decode cX0_turn 40 = .ok (.iload_n 1, 1) := by decide +kernel
theorem dX0_turn_41 : decode cX0_turn 41 = .ok (.iload_n 3, 1) := by decide +kernel
theorem dX0_turn_42 : decode cX0_turn 42 = .ok (.invokevirtual 65, 3) := by decide +kernel
theorem dX0_turn_45 : decode cX0_turn 45 = .ok (.aload_n 0, 1) := by decide +kernel
theorem dX0_turn_46 : decode cX0_turn 46 = .ok (.getfield 41, 3) := by decide +kernel
theorem dX0_turn_49 : decode cX0_turn 49 = .ok (.iload_n 1, 1) := by decide +kernel
theorem dX0_turn_50 : decode cX0_turn 50 = .ok (.idiv, 1) := by decide +kernel
theorem dX0_turn_51 : decode cX0_turn 51 = .ok (.istore 4, 2) := by decide +kernel
theorem dX0_turn_53 : decode cX0_turn 53 = .ok (.iconst 0, 1) := by decide +kernel
theorem dX0_turn_54 : decode cX0_turn 54 = .ok (.istore 5, 2) := by decide +kernel
theorem dX0_turn_56 : decode cX0_turn 56 = .ok (.iconst 0, 1) := by decide +kernel
theorem dX0_turn_57 : decode cX0_turn 57 = .ok (.istore 6, 2) := by decide +kernel
theorem dX0_turn_59 : decode cX0_turn 59 = .ok (.iload 6, 2) := by decide +kernel
theorem dX0_turn_61 : decode cX0_turn 61 = .ok (.iload_n 1, 1) := by decide +kernel
theorem dX0_turn_62 : decode cX0_turn 62 = .ok (.if_icmp .ge 76, 3) := by decide +kernel
theorem dX0_turn_65 : decode cX0_turn 65 = .ok (.aload_n 0, 1) := by decide +kernel
theorem dX0_turn_66 : decode cX0_turn 66 = .ok (.getfield 32, 3) := by decide +kernel
theorem dX0_turn_69 : decode cX0_turn 69 = .ok (.iload 6, 2) := by decide +kernel
theorem dX0_turn_71 : decode cX0_turn 71 = .ok (.iaload, 1) := by decide +kernel
theorem dX0_turn_72 : decode cX0_turn 72 = .ok (.iload_n 2, 1) := by decide +kernel
theorem dX0_turn_73 : decode cX0_turn 73 = .ok (.iadd, 1) := by decide +kernel
theorem dX0_turn_74 : decode cX0_turn 74 = .ok (.iload_n 1, 1) := by decide +kernel
theorem dX0_turn_75 : decode cX0_turn 75 = .ok (.irem, 1) := by decide +kernel
theorem dX0_turn_76 : decode cX0_turn 76 = .ok (.istore 7, 2) := by decide +kernel
theorem dX0_turn_78 : decode cX0_turn 78 = .ok (.iload 7, 2) := by decide +kernel
theorem dX0_turn_80 : decode cX0_turn 80 = .ok (.ifCond .ne 10, 3) := by decide +kernel
theorem dX0_turn_83 : decode cX0_turn 83 = .ok (.iload 6, 2) := by decide +kernel
theorem dX0_turn_85 : decode cX0_turn 85 = .ok (.iload 4, 2) := by decide +kernel
theorem dX0_turn_87 : decode cX0_turn 87 = .ok (.imul, 1) := by decide +kernel
theorem dX0_turn_88 : decode cX0_turn 88 = .ok (.istore 5, 2) := by decide +kernel
theorem dX0_turn_90 : decode cX0_turn 90 = .ok (.iconst 0, 1) := by decide +kernel
theorem dX0_turn_91 : decode cX0_turn 91 = .ok (.istore 8, 2) := by decide +kernel
theorem dX0_turn_93 : decode cX0_turn 93 = .ok (.iload 8, 2) := by decide +kernel
theorem dX0_turn_95 : decode cX0_turn 95 = .ok (.iload 4, 2) := by decide +kernel
theorem dX0_turn_97 : decode cX0_turn 97 = .ok (.if_icmp .ge 35, 3) := by decide +kernel
theorem dX0_turn_100 : decode cX0_turn 100 = .ok (.aload_n 0, 1) := by decide +kernel
theorem dX0_turn_101 : decode cX0_turn 101 = .ok (.getfield 13, 3) := by decide +kernel
theorem dX0_turn_104 : decode cX0_turn 104 = .ok (.iload 6, 2) := by decide +kernel
theorem dX0_turn_106 : decode cX0_turn 106 = .ok (.iload 4, 2) := by decide +kernel
theorem dX0_turn_108 : decode cX0_turn 108 = .ok (.imul, 1) := by decide +kernel
theorem dX0_turn_109 : decode cX0_turn 109 = .ok (.iload 8, 2) := by decide +kernel
theorem dX0_turn_111 : decode cX0_turn 111 = .ok (.iadd, 1) := by decide +kernel
theorem dX0_turn_112 : decode cX0_turn 112 = .ok (.aload_n 0, 1) := by decide +kernel
theorem dX0_turn_113 : decode cX0_turn 113 = .ok (.getfield 9, 3) := by decide +kernel
theorem dX0_turn_116 : decode cX0_turn 116 = .ok (.iload 7, 2) := by decide +kernel
theorem dX0_turn_118 : decode cX0_turn 118 = .ok (.iload_n 1, 1) := by decide +kernel
theorem dX0_turn_119 : decode cX0_turn 119 = .ok (.iadd, 1) := by decide +kernel
theorem dX0_turn_120 : decode cX0_turn 120 = .ok (.iconst 1, 1) := by decide +kernel
theorem dX0_turn_121 : decode cX0_turn 121 = .ok (.isub, 1) := by decide +kernel
theorem dX0_turn_122 : decode cX0_turn 122 = .ok (.iload_n 1, 1) := by decide +kernel
theorem dX0_turn_123 : decode cX0_turn 123 = .ok (.irem, 1) := by decide +kernel
theorem dX0_turn_124 : decode cX0_turn 124 = .ok (.iaload, 1) := by decide +kernel
theorem dX0_turn_125 : decode cX0_turn 125 = .ok (.iastore, 1) := by decide +kernel
theorem dX0_turn_126 : decode cX0_turn 126 = .ok (.iinc 8 1, 3) := by decide +kernel
theorem dX0_turn_129 : decode cX0_turn 129 = .ok (.goto (-36), 3) := by decide +kernel
theorem dX0_turn_132 : decode cX0_turn 132 = .ok (.iinc 6 1, 3) := by decide +kernel
theorem dX0_turn_135 : decode cX0_turn 135 = .ok (.goto (-76), 3) := by decide +kernel
theorem dX0_turn_138 : decode cX0_turn 138 = .ok (.aload_n 0, 1) := by decide +kernel
theorem dX0_turn_139 : decode cX0_turn 139 = .ok (.aload_n 0, 1) := by decide +kernel
theorem dX0_turn_140 : decode cX0_turn 140 = .ok (.getfield 41, 3) := by decide +kernel
theorem dX0_turn_143 : decode cX0_turn 143 = .ok (.putfield 69, 3) := by decide +kernel
theorem dX0_turn_146 : decode cX0_turn 146 = .ok (.aload_n 0, 1) := by decide +kernel
theorem dX0_turn_147 : decode cX0_turn 147 = .ok (.iload 5, 2) := by decide +kernel
theorem dX0_turn_149 : decode cX0_turn 149 = .ok (.invokevirtual 72, 3) := by decide +kernel
theorem dX0_turn_152 : decode cX0_turn 152 = .ok (.iconst 1, 1) := by decide +kernel
theorem dX0_turn_153 : decode cX0_turn 153 = .ok (.ireturn, 1) := by decide +kernel
abbrev cX0_period : ByteArray := prog_1_method_4_code
def yX0_period : MethodName := ⟨RX0, "period", "()I"⟩
theorem dX0_period_0 : decode cX0_period 0 = .ok (.aload_n 0, 1) := by decide +kernel
theorem dX0_period_1 : decode cX0_period 1 = .ok (.getfield 26, 3) := by decide +kernel
theorem dX0_period_4 : decode cX0_period 4 = .ok (.iconst 0, 1) := by decide +kernel
theorem dX0_period_5 : decode cX0_period 5 = .ok (.iconst (-1), 1) := by decide +kernel
theorem dX0_period_6 : decode cX0_period 6 = .ok (.iastore, 1) := by decide +kernel
theorem dX0_period_7 : decode cX0_period 7 = .ok (.iconst (-1), 1) := by decide +kernel
theorem dX0_period_8 : decode cX0_period 8 = .ok (.istore_n 1, 1) := by decide +kernel
theorem dX0_period_9 : decode cX0_period 9 = .ok (.iconst 0, 1) := by decide +kernel
theorem dX0_period_10 : decode cX0_period 10 = .ok (.istore_n 2, 1) := by decide +kernel
theorem dX0_period_11 : decode cX0_period 11 = .ok (.iload_n 2, 1) := by decide +kernel
theorem dX0_period_12 : decode cX0_period 12 = .ok (.aload_n 0, 1) := by decide +kernel
theorem dX0_period_13 : decode cX0_period 13 = .ok (.getfield 41, 3) := by decide +kernel
theorem dX0_period_16 : decode cX0_period 16 = .ok (.if_icmp .ge 50, 3) := by decide +kernel
theorem dX0_period_19 : decode cX0_period 19 = .ok (.iload_n 1, 1) := by decide +kernel
theorem dX0_period_20 : decode cX0_period 20 = .ok (.ifCond .lt 28, 3) := by decide +kernel
theorem dX0_period_23 : decode cX0_period 23 = .ok (.aload_n 0, 1) := by decide +kernel
theorem dX0_period_24 : decode cX0_period 24 = .ok (.getfield 9, 3) := by decide +kernel
theorem dX0_period_27 : decode cX0_period 27 = .ok (.iload_n 1, 1) := by decide +kernel
theorem dX0_period_28 : decode cX0_period 28 = .ok (.iaload, 1) := by decide +kernel
theorem dX0_period_29 : decode cX0_period 29 = .ok (.aload_n 0, 1) := by decide +kernel
theorem dX0_period_30 : decode cX0_period 30 = .ok (.getfield 9, 3) := by decide +kernel
theorem dX0_period_33 : decode cX0_period 33 = .ok (.iload_n 2, 1) := by decide +kernel
theorem dX0_period_34 : decode cX0_period 34 = .ok (.iaload, 1) := by decide +kernel
theorem dX0_period_35 : decode cX0_period 35 = .ok (.if_icmp .eq 13, 3) := by decide +kernel
theorem dX0_period_38 : decode cX0_period 38 = .ok (.aload_n 0, 1) := by decide +kernel
theorem dX0_period_39 : decode cX0_period 39 = .ok (.getfield 26, 3) := by decide +kernel
theorem dX0_period_42 : decode cX0_period 42 = .ok (.iload_n 1, 1) := by decide +kernel
theorem dX0_period_43 : decode cX0_period 43 = .ok (.iaload, 1) := by decide +kernel
theorem dX0_period_44 : decode cX0_period 44 = .ok (.istore_n 1, 1) := by decide +kernel
theorem dX0_period_45 : decode cX0_period 45 = .ok (.goto (-26), 3) := by decide +kernel
theorem dX0_period_48 : decode cX0_period 48 = .ok (.iinc 1 1, 3) := by decide +kernel
theorem dX0_period_51 : decode cX0_period 51 = .ok (.aload_n 0, 1) := by decide +kernel
theorem dX0_period_52 : decode cX0_period 52 = .ok (.getfield 26, 3) := by decide +kernel
theorem dX0_period_55 : decode cX0_period 55 = .ok (.iload_n 2, 1) := by decide +kernel
theorem dX0_period_56 : decode cX0_period 56 = .ok (.iconst 1, 1) := by decide +kernel
theorem dX0_period_57 : decode cX0_period 57 = .ok (.iadd, 1) := by decide +kernel
theorem dX0_period_58 : decode cX0_period 58 = .ok (.iload_n 1, 1) := by decide +kernel
theorem dX0_period_59 : decode cX0_period 59 = .ok (.iastore, 1) := by decide +kernel
theorem dX0_period_60 : decode cX0_period 60 = .ok (.iinc 2 1, 3) := by decide +kernel
theorem dX0_period_63 : decode cX0_period 63 = .ok (.goto (-52), 3) := by decide +kernel
theorem dX0_period_66 : decode cX0_period 66 = .ok (.aload_n 0, 1) := by decide +kernel
theorem dX0_period_67 : decode cX0_period 67 = .ok (.getfield 41, 3) := by decide +kernel
theorem dX0_period_70 : decode cX0_period 70 = .ok (.aload_n 0, 1) := by decide +kernel
theorem dX0_period_71 : decode cX0_period 71 = .ok (.getfield 26, 3) := by decide +kernel
theorem dX0_period_74 : decode cX0_period 74 = .ok (.aload_n 0, 1) := by decide +kernel
theorem dX0_period_75 : decode cX0_period 75 = .ok (.getfield 41, 3) := by decide +kernel
theorem dX0_period_78 : decode cX0_period 78 = .ok (.iaload, 1) := by decide +kernel
theorem dX0_period_79 : decode cX0_period 79 = .ok (.isub, 1) := by decide +kernel
theorem dX0_period_80 : decode cX0_period 80 = .ok (.istore_n 2, 1) := by decide +kernel
theorem dX0_period_81 : decode cX0_period 81 = .ok (.aload_n 0, 1) := by decide +kernel
theorem dX0_period_82 : decode cX0_period 82 = .ok (.getfield 41, 3) := by decide +kernel
theorem dX0_period_85 : decode cX0_period 85 = .ok (.iload_n 2, 1) := by decide +kernel
theorem dX0_period_86 : decode cX0_period 86 = .ok (.irem, 1) := by decide +kernel
theorem dX0_period_87 : decode cX0_period 87 = .ok (.ifCond .ne 7, 3) := by decide +kernel
theorem dX0_period_90 : decode cX0_period 90 = .ok (.iload_n 2, 1) := by decide +kernel
theorem dX0_period_91 : decode cX0_period 91 = .ok (.goto 7, 3) := by decide +kernel
theorem dX0_period_94 : decode cX0_period 94 = .ok (.aload_n 0, 1) := by decide +kernel
theorem dX0_period_95 : decode cX0_period 95 = .ok (.getfield 41, 3) := by decide +kernel
theorem dX0_period_98 : decode cX0_period 98 = .ok (.ireturn, 1) := by decide +kernel
abbrev cX0_least : ByteArray := prog_1_method_5_code
def yX0_least : MethodName := ⟨RX0, "least", "(I)I"⟩
theorem dX0_least_0 : decode cX0_least 0 = .ok (.iconst 0, 1) := by decide +kernel
theorem dX0_least_1 : decode cX0_least 1 = .ok (.istore_n 2, 1) := by decide +kernel
theorem dX0_least_2 : decode cX0_least 2 = .ok (.iconst 1, 1) := by decide +kernel
theorem dX0_least_3 : decode cX0_least 3 = .ok (.istore_n 3, 1) := by decide +kernel
theorem dX0_least_4 : decode cX0_least 4 = .ok (.iconst 0, 1) := by decide +kernel
theorem dX0_least_5 : decode cX0_least 5 = .ok (.istore 4, 2) := by decide +kernel
theorem dX0_least_7 : decode cX0_least 7 = .ok (.iload_n 2, 1) := by decide +kernel
theorem dX0_least_8 : decode cX0_least 8 = .ok (.iload_n 1, 1) := by decide +kernel
theorem dX0_least_9 : decode cX0_least 9 = .ok (.if_icmp .ge 86, 3) := by decide +kernel
theorem dX0_least_12 : decode cX0_least 12 = .ok (.iload_n 3, 1) := by decide +kernel
theorem dX0_least_13 : decode cX0_least 13 = .ok (.iload_n 1, 1) := by decide +kernel
theorem dX0_least_14 : decode cX0_least 14 = .ok (.if_icmp .ge 81, 3) := by decide +kernel
theorem dX0_least_17 : decode cX0_least 17 = .ok (.iload 4, 2) := by decide +kernel
theorem dX0_least_19 : decode cX0_least 19 = .ok (.iload_n 1, 1) := by decide +kernel
theorem dX0_least_20 : decode cX0_least 20 = .ok (.if_icmp .ge 75, 3) := by decide +kernel
theorem dX0_least_23 : decode cX0_least 23 = .ok (.aload_n 0, 1) := by decide +kernel
theorem dX0_least_24 : decode cX0_least 24 = .ok (.getfield 9, 3) := by decide +kernel
theorem dX0_least_27 : decode cX0_least 27 = .ok (.iload_n 2, 1) := by decide +kernel
theorem dX0_least_28 : decode cX0_least 28 = .ok (.iload 4, 2) := by decide +kernel
theorem dX0_least_30 : decode cX0_least 30 = .ok (.iadd, 1) := by decide +kernel
theorem dX0_least_31 : decode cX0_least 31 = .ok (.iload_n 1, 1) := by decide +kernel
theorem dX0_least_32 : decode cX0_least 32 = .ok (.irem, 1) := by decide +kernel
theorem dX0_least_33 : decode cX0_least 33 = .ok (.iaload, 1) := by decide +kernel
theorem dX0_least_34 : decode cX0_least 34 = .ok (.aload_n 0, 1) := by decide +kernel
theorem dX0_least_35 : decode cX0_least 35 = .ok (.getfield 9, 3) := by decide +kernel
theorem dX0_least_38 : decode cX0_least 38 = .ok (.iload_n 3, 1) := by decide +kernel
theorem dX0_least_39 : decode cX0_least 39 = .ok (.iload 4, 2) := by decide +kernel
theorem dX0_least_41 : decode cX0_least 41 = .ok (.iadd, 1) := by decide +kernel
theorem dX0_least_42 : decode cX0_least 42 = .ok (.iload_n 1, 1) := by decide +kernel
theorem dX0_least_43 : decode cX0_least 43 = .ok (.irem, 1) := by decide +kernel
theorem dX0_least_44 : decode cX0_least 44 = .ok (.iaload, 1) := by decide +kernel
theorem dX0_least_45 : decode cX0_least 45 = .ok (.isub, 1) := by decide +kernel
theorem dX0_least_46 : decode cX0_least 46 = .ok (.istore 5, 2) := by decide +kernel
theorem dX0_least_48 : decode cX0_least 48 = .ok (.iload 5, 2) := by decide +kernel
theorem dX0_least_50 : decode cX0_least 50 = .ok (.ifCond .ne 9, 3) := by decide +kernel
theorem dX0_least_53 : decode cX0_least 53 = .ok (.iinc 4 1, 3) := by decide +kernel
theorem dX0_least_56 : decode cX0_least 56 = .ok (.goto (-49), 3) := by decide +kernel
theorem dX0_least_59 : decode cX0_least 59 = .ok (.iload 5, 2) := by decide +kernel
theorem dX0_least_61 : decode cX0_least 61 = .ok (.ifCond .le 13, 3) := by decide +kernel
theorem dX0_least_64 : decode cX0_least 64 = .ok (.iload_n 2, 1) := by decide +kernel
theorem dX0_least_65 : decode cX0_least 65 = .ok (.iload 4, 2) := by decide +kernel
theorem dX0_least_67 : decode cX0_least 67 = .ok (.iconst 1, 1) := by decide +kernel
theorem dX0_least_68 : decode cX0_least 68 = .ok (.iadd, 1) := by decide +kernel
theorem dX0_least_69 : decode cX0_least 69 = .ok (.iadd, 1) := by decide +kernel
theorem dX0_least_70 : decode cX0_least 70 = .ok (.istore_n 2, 1) := by decide +kernel
theorem dX0_least_71 : decode cX0_least 71 = .ok (.goto 10, 3) := by decide +kernel
theorem dX0_least_74 : decode cX0_least 74 = .ok (.iload_n 3, 1) := by decide +kernel
theorem dX0_least_75 : decode cX0_least 75 = .ok (.iload 4, 2) := by decide +kernel
theorem dX0_least_77 : decode cX0_least 77 = .ok (.iconst 1, 1) := by decide +kernel
theorem dX0_least_78 : decode cX0_least 78 = .ok (.iadd, 1) := by decide +kernel
theorem dX0_least_79 : decode cX0_least 79 = .ok (.iadd, 1) := by decide +kernel
theorem dX0_least_80 : decode cX0_least 80 = .ok (.istore_n 3, 1) := by decide +kernel
theorem dX0_least_81 : decode cX0_least 81 = .ok (.iload_n 2, 1) := by decide +kernel
theorem dX0_least_82 : decode cX0_least 82 = .ok (.iload_n 3, 1) := by decide +kernel
theorem dX0_least_83 : decode cX0_least 83 = .ok (.if_icmp .ne 6, 3) := by decide +kernel
theorem dX0_least_86 : decode cX0_least 86 = .ok (.iinc 3 1, 3) := by decide +kernel
theorem dX0_least_89 : decode cX0_least 89 = .ok (.iconst 0, 1) := by decide +kernel
theorem dX0_least_90 : decode cX0_least 90 = .ok (.istore 4, 2) := by decide +kernel
theorem dX0_least_92 : decode cX0_least 92 = .ok (.goto (-85), 3) := by decide +kernel
theorem dX0_least_95 : decode cX0_least 95 = .ok (.iload_n 2, 1) := by decide +kernel
theorem dX0_least_96 : decode cX0_least 96 = .ok (.iload_n 3, 1) := by decide +kernel
theorem dX0_least_97 : decode cX0_least 97 = .ok (.invokestatic 48, 3) := by decide +kernel
theorem dX0_least_100 : decode cX0_least 100 = .ok (.ireturn, 1) := by decide +kernel
abbrev cX0_name : ByteArray := prog_1_method_6_code
def yX0_name : MethodName := ⟨RX0, "name", "(II)I"⟩
theorem dX0_name_0 : decode cX0_name 0 = .ok (.iconst 0, 1) := by decide +kernel
theorem dX0_name_1 : decode cX0_name 1 = .ok (.istore_n 3, 1) := by decide +kernel
theorem dX0_name_2 : decode cX0_name 2 = .ok (.iload_n 3, 1) := by decide +kernel
theorem dX0_name_3 : decode cX0_name 3 = .ok (.sipush 256, 3) := by decide +kernel
theorem dX0_name_6 : decode cX0_name 6 = .ok (.if_icmp .ge 16, 3) := by decide +kernel
theorem dX0_name_9 : decode cX0_name 9 = .ok (.aload_n 0, 1) := by decide +kernel
theorem dX0_name_10 : decode cX0_name 10 = .ok (.getfield 35, 3) := by decide +kernel
theorem dX0_name_13 : decode cX0_name 13 = .ok (.iload_n 3, 1) := by decide +kernel
theorem dX0_name_14 : decode cX0_name 14 = .ok (.iconst 0, 1) := by decide +kernel
theorem dX0_name_15 : decode cX0_name 15 = .ok (.iastore, 1) := by decide +kernel
theorem dX0_name_16 : decode cX0_name 16 = .ok (.iinc 3 1, 3) := by decide +kernel
theorem dX0_name_19 : decode cX0_name 19 = .ok (.goto (-17), 3) := by decide +kernel
theorem dX0_name_22 : decode cX0_name 22 = .ok (.iconst 0, 1) := by decide +kernel
theorem dX0_name_23 : decode cX0_name 23 = .ok (.istore_n 3, 1) := by decide +kernel
theorem dX0_name_24 : decode cX0_name 24 = .ok (.iload_n 3, 1) := by decide +kernel
theorem dX0_name_25 : decode cX0_name 25 = .ok (.iload_n 1, 1) := by decide +kernel
theorem dX0_name_26 : decode cX0_name 26 = .ok (.if_icmp .ge 21, 3) := by decide +kernel
theorem dX0_name_29 : decode cX0_name 29 = .ok (.aload_n 0, 1) := by decide +kernel
theorem dX0_name_30 : decode cX0_name 30 = .ok (.getfield 35, 3) := by decide +kernel
theorem dX0_name_33 : decode cX0_name 33 = .ok (.aload_n 0, 1) := by decide +kernel
theorem dX0_name_34 : decode cX0_name 34 = .ok (.getfield 9, 3) := by decide +kernel
theorem dX0_name_37 : decode cX0_name 37 = .ok (.iload_n 3, 1) := by decide +kernel
theorem dX0_name_38 : decode cX0_name 38 = .ok (.iaload, 1) := by decide +kernel
theorem dX0_name_39 : decode cX0_name 39 = .ok (.iconst 1, 1) := by decide +kernel
theorem dX0_name_40 : decode cX0_name 40 = .ok (.iastore, 1) := by decide +kernel
theorem dX0_name_41 : decode cX0_name 41 = .ok (.iinc 3 1, 3) := by decide +kernel
theorem dX0_name_44 : decode cX0_name 44 = .ok (.goto (-20), 3) := by decide +kernel
theorem dX0_name_47 : decode cX0_name 47 = .ok (.iconst 0, 1) := by decide +kernel
theorem dX0_name_48 : decode cX0_name 48 = .ok (.istore_n 3, 1) := by decide +kernel
theorem dX0_name_49 : decode cX0_name 49 = .ok (.iconst 0, 1) := by decide +kernel
theorem dX0_name_50 : decode cX0_name 50 = .ok (.istore 4, 2) := by decide +kernel
theorem dX0_name_52 : decode cX0_name 52 = .ok (.iload 4, 2) := by decide +kernel
theorem dX0_name_54 : decode cX0_name 54 = .ok (.sipush 256, 3) := by decide +kernel
theorem dX0_name_57 : decode cX0_name 57 = .ok (.if_icmp .ge 33, 3) := by decide +kernel
theorem dX0_name_60 : decode cX0_name 60 = .ok (.aload_n 0, 1) := by decide +kernel
theorem dX0_name_61 : decode cX0_name 61 = .ok (.getfield 35, 3) := by decide +kernel
theorem dX0_name_64 : decode cX0_name 64 = .ok (.iload 4, 2) := by decide +kernel
theorem dX0_name_66 : decode cX0_name 66 = .ok (.iaload, 1) := by decide +kernel
theorem dX0_name_67 : decode cX0_name 67 = .ok (.ifCond .ne 6, 3) := by decide +kernel
theorem dX0_name_70 : decode cX0_name 70 = .ok (.goto 14, 3) := by decide +kernel
theorem dX0_name_73 : decode cX0_name 73 = .ok (.iinc 3 1, 3) := by decide +kernel
theorem dX0_name_76 : decode cX0_name 76 = .ok (.aload_n 0, 1) := by decide +kernel
theorem dX0_name_77 : decode cX0_name 77 = .ok (.getfield 35, 3) := by decide +kernel
theorem dX0_name_80 : decode cX0_name 80 = .ok (.iload 4, 2) := by decide +kernel
theorem dX0_name_82 : decode cX0_name 82 = .ok (.iload_n 3, 1) := by decide +kernel
theorem dX0_name_83 : decode cX0_name 83 = .ok (.iastore, 1) := by decide +kernel
theorem dX0_name_84 : decode cX0_name 84 = .ok (.iinc 4 1, 3) := by decide +kernel
theorem dX0_name_87 : decode cX0_name 87 = .ok (.goto (-35), 3) := by decide +kernel
theorem dX0_name_90 : decode cX0_name 90 = .ok (.iconst 0, 1) := by decide +kernel
theorem dX0_name_91 : decode cX0_name 91 = .ok (.istore 4, 2) := by decide +kernel
theorem dX0_name_93 : decode cX0_name 93 = .ok (.iload 4, 2) := by decide +kernel
theorem dX0_name_95 : decode cX0_name 95 = .ok (.iload_n 1, 1) := by decide +kernel
theorem dX0_name_96 : decode cX0_name 96 = .ok (.if_icmp .ge 32, 3) := by decide +kernel
theorem dX0_name_99 : decode cX0_name 99 = .ok (.aload_n 0, 1) := by decide +kernel
theorem dX0_name_100 : decode cX0_name 100 = .ok (.getfield 29, 3) := by decide +kernel
theorem dX0_name_103 : decode cX0_name 103 = .ok (.iload 4, 2) := by decide +kernel
theorem dX0_name_105 : decode cX0_name 105 = .ok (.aload_n 0, 1) := by decide +kernel
theorem dX0_name_106 : decode cX0_name 106 = .ok (.getfield 35, 3) := by decide +kernel
theorem dX0_name_109 : decode cX0_name 109 = .ok (.aload_n 0, 1) := by decide +kernel
theorem dX0_name_110 : decode cX0_name 110 = .ok (.getfield 9, 3) := by decide +kernel
theorem dX0_name_113 : decode cX0_name 113 = .ok (.iload_n 2, 1) := by decide +kernel
theorem dX0_name_114 : decode cX0_name 114 = .ok (.iload 4, 2) := by decide +kernel
theorem dX0_name_116 : decode cX0_name 116 = .ok (.iadd, 1) := by decide +kernel
theorem dX0_name_117 : decode cX0_name 117 = .ok (.iload_n 1, 1) := by decide +kernel
theorem dX0_name_118 : decode cX0_name 118 = .ok (.irem, 1) := by decide +kernel
theorem dX0_name_119 : decode cX0_name 119 = .ok (.iaload, 1) := by decide +kernel
theorem dX0_name_120 : decode cX0_name 120 = .ok (.iaload, 1) := by decide +kernel
theorem dX0_name_121 : decode cX0_name 121 = .ok (.iastore, 1) := by decide +kernel
theorem dX0_name_122 : decode cX0_name 122 = .ok (.iinc 4 1, 3) := by decide +kernel
theorem dX0_name_125 : decode cX0_name 125 = .ok (.goto (-32), 3) := by decide +kernel
theorem dX0_name_128 : decode cX0_name 128 = .ok (.iconst 0, 1) := by decide +kernel
theorem dX0_name_129 : decode cX0_name 129 = .ok (.istore 4, 2) := by decide +kernel
theorem dX0_name_131 : decode cX0_name 131 = .ok (.iload 4, 2) := by decide +kernel
theorem dX0_name_133 : decode cX0_name 133 = .ok (.iconst 3, 1) := by decide +kernel
theorem dX0_name_134 : decode cX0_name 134 = .ok (.if_icmp .ge 19, 3) := by decide +kernel
theorem dX0_name_137 : decode cX0_name 137 = .ok (.aload_n 0, 1) := by decide +kernel
theorem dX0_name_138 : decode cX0_name 138 = .ok (.getfield 29, 3) := by decide +kernel
theorem dX0_name_141 : decode cX0_name 141 = .ok (.iload_n 1, 1) := by decide +kernel
theorem dX0_name_142 : decode cX0_name 142 = .ok (.iload 4, 2) := by decide +kernel
theorem dX0_name_144 : decode cX0_name 144 = .ok (.iadd, 1) := by decide +kernel
theorem dX0_name_145 : decode cX0_name 145 = .ok (.iconst 0, 1) := by decide +kernel
theorem dX0_name_146 : decode cX0_name 146 = .ok (.iastore, 1) := by decide +kernel
theorem dX0_name_147 : decode cX0_name 147 = .ok (.iinc 4 1, 3) := by decide +kernel
theorem dX0_name_150 : decode cX0_name 150 = .ok (.goto (-19), 3) := by decide +kernel
theorem dX0_name_153 : decode cX0_name 153 = .ok (.iload_n 3, 1) := by decide +kernel
theorem dX0_name_154 : decode cX0_name 154 = .ok (.ireturn, 1) := by decide +kernel
abbrev cX0_goBack : ByteArray := prog_1_method_8_code
def yX0_goBack : MethodName := ⟨RX0, "goBack", "(I)V"⟩
theorem dX0_goBack_0 : decode cX0_goBack 0 = .ok (.iconst 0, 1) := by decide +kernel
theorem dX0_goBack_1 : decode cX0_goBack 1 = .ok (.istore_n 2, 1) := by decide +kernel
theorem dX0_goBack_2 : decode cX0_goBack 2 = .ok (.iconst 0, 1) := by decide +kernel
theorem dX0_goBack_3 : decode cX0_goBack 3 = .ok (.istore_n 3, 1) := by decide +kernel
theorem dX0_goBack_4 : decode cX0_goBack 4 = .ok (.iload_n 3, 1) := by decide +kernel
theorem dX0_goBack_5 : decode cX0_goBack 5 = .ok (.sipush 256, 3) := by decide +kernel
theorem dX0_goBack_8 : decode cX0_goBack 8 = .ok (.if_icmp .ge 52, 3) := by decide +kernel
theorem dX0_goBack_11 : decode cX0_goBack 11 = .ok (.iconst 0, 1) := by decide +kernel
theorem dX0_goBack_12 : decode cX0_goBack 12 = .ok (.istore 4, 2) := by decide +kernel
theorem dX0_goBack_14 : decode cX0_goBack 14 = .ok (.iload 4, 2) := by decide +kernel
theorem dX0_goBack_16 : decode cX0_goBack 16 = .ok (.aload_n 0, 1) := by decide +kernel
theorem dX0_goBack_17 : decode cX0_goBack 17 = .ok (.getfield 69, 3) := by decide +kernel
theorem dX0_goBack_20 : decode cX0_goBack 20 = .ok (.if_icmp .ge 34, 3) := by decide +kernel
theorem dX0_goBack_23 : decode cX0_goBack 23 = .ok (.aload_n 0, 1) := by decide +kernel
theorem dX0_goBack_24 : decode cX0_goBack 24 = .ok (.getfield 13, 3) := by decide +kernel
theorem dX0_goBack_27 : decode cX0_goBack 27 = .ok (.iload 4, 2) := by decide +kernel
theorem dX0_goBack_29 : decode cX0_goBack 29 = .ok (.iaload, 1) := by decide +kernel
theorem dX0_goBack_30 : decode cX0_goBack 30 = .ok (.iload_n 3, 1) := by decide +kernel
theorem dX0_goBack_31 : decode cX0_goBack 31 = .ok (.if_icmp .eq 6, 3) := by decide +kernel
theorem dX0_goBack_34 : decode cX0_goBack 34 = .ok (.goto 14, 3) := by decide +kernel
theorem dX0_goBack_37 : decode cX0_goBack 37 = .ok (.aload_n 0, 1) := by decide +kernel
theorem dX0_goBack_38 : decode cX0_goBack 38 = .ok (.getfield 38, 3) := by decide +kernel
theorem dX0_goBack_41 : decode cX0_goBack 41 = .ok (.iload 4, 2) := by decide +kernel
theorem dX0_goBack_43 : decode cX0_goBack 43 = .ok (.iload_n 2, 1) := by decide +kernel
theorem dX0_goBack_44 : decode cX0_goBack 44 = .ok (.iastore, 1) := by decide +kernel
theorem dX0_goBack_45 : decode cX0_goBack 45 = .ok (.iinc 2 1, 3) := by decide +kernel
theorem dX0_goBack_48 : decode cX0_goBack 48 = .ok (.iinc 4 1, 3) := by decide +kernel
theorem dX0_goBack_51 : decode cX0_goBack 51 = .ok (.goto (-37), 3) := by decide +kernel
theorem dX0_goBack_54 : decode cX0_goBack 54 = .ok (.iinc 3 1, 3) := by decide +kernel
theorem dX0_goBack_57 : decode cX0_goBack 57 = .ok (.goto (-53), 3) := by decide +kernel
theorem dX0_goBack_60 : decode cX0_goBack 60 = .ok (.iload_n 1, 1) := by decide +kernel
theorem dX0_goBack_61 : decode cX0_goBack 61 = .ok (.istore_n 3, 1) := by decide +kernel
theorem dX0_goBack_62 : decode cX0_goBack 62 = .ok (.aload_n 0, 1) := by decide +kernel
theorem dX0_goBack_63 : decode cX0_goBack 63 = .ok (.getfield 69, 3) := by decide +kernel
theorem dX0_goBack_66 : decode cX0_goBack 66 = .ok (.iconst 1, 1) := by decide +kernel
theorem dX0_goBack_67 : decode cX0_goBack 67 = .ok (.isub, 1) := by decide +kernel
theorem dX0_goBack_68 : decode cX0_goBack 68 = .ok (.istore 4, 2) := by decide +kernel
theorem dX0_goBack_70 : decode cX0_goBack 70 = .ok (.iload 4, 2) := by decide +kernel
theorem dX0_goBack_72 : decode cX0_goBack 72 = .ok (.ifCond .lt 29, 3) := by decide +kernel
theorem dX0_goBack_75 : decode cX0_goBack 75 = .ok (.aload_n 0, 1) := by decide +kernel
theorem dX0_goBack_76 : decode cX0_goBack 76 = .ok (.getfield 16, 3) := by decide +kernel
theorem dX0_goBack_79 : decode cX0_goBack 79 = .ok (.iload 4, 2) := by decide +kernel
theorem dX0_goBack_81 : decode cX0_goBack 81 = .ok (.aload_n 0, 1) := by decide +kernel
theorem dX0_goBack_82 : decode cX0_goBack 82 = .ok (.getfield 13, 3) := by decide +kernel
theorem dX0_goBack_85 : decode cX0_goBack 85 = .ok (.iload_n 3, 1) := by decide +kernel
theorem dX0_goBack_86 : decode cX0_goBack 86 = .ok (.iaload, 1) := by decide +kernel
theorem dX0_goBack_87 : decode cX0_goBack 87 = .ok (.iastore, 1) := by decide +kernel
theorem dX0_goBack_88 : decode cX0_goBack 88 = .ok (.aload_n 0, 1) := by decide +kernel
theorem dX0_goBack_89 : decode cX0_goBack 89 = .ok (.getfield 38, 3) := by decide +kernel
theorem dX0_goBack_92 : decode cX0_goBack 92 = .ok (.iload_n 3, 1) := by decide +kernel
theorem dX0_goBack_93 : decode cX0_goBack 93 = .ok (.iaload, 1) := by decide +kernel
theorem dX0_goBack_94 : decode cX0_goBack 94 = .ok (.istore_n 3, 1) := by decide +kernel
theorem dX0_goBack_95 : decode cX0_goBack 95 = .ok (.iinc 4 (-1), 3) := by decide +kernel
theorem dX0_goBack_98 : decode cX0_goBack 98 = .ok (.goto (-28), 3) := by decide +kernel
theorem dX0_goBack_101 : decode cX0_goBack 101 = .ok (.return_, 1) := by decide +kernel
abbrev cX0_at : ByteArray := prog_1_method_9_code
def yX0_at : MethodName := ⟨RX0, "at", "(I)I"⟩
theorem dX0_at_0 : decode cX0_at 0 = .ok (.aload_n 0, 1) := by decide +kernel
theorem dX0_at_1 : decode cX0_at 1 = .ok (.getfield 69, 3) := by decide +kernel
theorem dX0_at_4 : decode cX0_at 4 = .ok (.ifCond .ne 7, 3) := by decide +kernel
theorem dX0_at_7 : decode cX0_at 7 = .ok (.iconst (-1), 1) := by decide +kernel
theorem dX0_at_8 : decode cX0_at 8 = .ok (.goto 17, 3) := by decide +kernel
theorem dX0_at_11 : decode cX0_at 11 = .ok (.aload_n 0, 1) := by decide +kernel
theorem dX0_at_12 : decode cX0_at 12 = .ok (.getfield 13, 3) := by decide +kernel
theorem dX0_at_15 : decode cX0_at 15 = .ok (.iload_n 1, 1) := by decide +kernel
theorem dX0_at_16 : decode cX0_at 16 = .ok (.ldc 47, 2) := by decide +kernel
theorem dX0_at_18 : decode cX0_at 18 = .ok (.iand, 1) := by decide +kernel
theorem dX0_at_19 : decode cX0_at 19 = .ok (.aload_n 0, 1) := by decide +kernel
theorem dX0_at_20 : decode cX0_at 20 = .ok (.getfield 69, 3) := by decide +kernel
theorem dX0_at_23 : decode cX0_at 23 = .ok (.irem, 1) := by decide +kernel
theorem dX0_at_24 : decode cX0_at 24 = .ok (.iaload, 1) := by decide +kernel
theorem dX0_at_25 : decode cX0_at 25 = .ok (.ireturn, 1) := by decide +kernel
abbrev cX0_back : ByteArray := prog_1_method_10_code
def yX0_back : MethodName := ⟨RX0, "back", "(I)I"⟩
theorem dX0_back_0 : decode cX0_back 0 = .ok (.aload_n 0, 1) := by decide +kernel
theorem dX0_back_1 : decode cX0_back 1 = .ok (.getfield 69, 3) := by decide +kernel
theorem dX0_back_4 : decode cX0_back 4 = .ok (.ifCond .ne 7, 3) := by decide +kernel
theorem dX0_back_7 : decode cX0_back 7 = .ok (.iconst (-1), 1) := by decide +kernel
theorem dX0_back_8 : decode cX0_back 8 = .ok (.goto 17, 3) := by decide +kernel
theorem dX0_back_11 : decode cX0_back 11 = .ok (.aload_n 0, 1) := by decide +kernel
theorem dX0_back_12 : decode cX0_back 12 = .ok (.getfield 16, 3) := by decide +kernel
theorem dX0_back_15 : decode cX0_back 15 = .ok (.iload_n 1, 1) := by decide +kernel
theorem dX0_back_16 : decode cX0_back 16 = .ok (.ldc 47, 2) := by decide +kernel
theorem dX0_back_18 : decode cX0_back 18 = .ok (.iand, 1) := by decide +kernel
theorem dX0_back_19 : decode cX0_back 19 = .ok (.aload_n 0, 1) := by decide +kernel
theorem dX0_back_20 : decode cX0_back 20 = .ok (.getfield 69, 3) := by decide +kernel
theorem dX0_back_23 : decode cX0_back 23 = .ok (.irem, 1) := by decide +kernel
theorem dX0_back_24 : decode cX0_back 24 = .ok (.iaload, 1) := by decide +kernel
theorem dX0_back_25 : decode cX0_back 25 = .ok (.ireturn, 1) := by decide +kernel
abbrev cX0_clear : ByteArray := prog_1_method_11_code
def yX0_clear : MethodName := ⟨RX0, "clear", "()V"⟩
theorem dX0_clear_0 : decode cX0_clear 0 = .ok (.aload_n 0, 1) := by decide +kernel
theorem dX0_clear_1 : decode cX0_clear 1 = .ok (.iconst 0, 1) := by decide +kernel
theorem dX0_clear_2 : decode cX0_clear 2 = .ok (.putfield 41, 3) := by decide +kernel
theorem dX0_clear_5 : decode cX0_clear 5 = .ok (.return_, 1) := by decide +kernel
theorem q9 : (Jvm.Cond.initialized "RotationSort") ∈ lw_all := lw_g (lw_at lw_m0 1 rfl) rfl
theorem q14 : (Jvm.Cond.instantiable "RotationSort" (11 : Nat)) ∈ lw_all := lw_g (lw_at lw_m0 6 rfl) rfl
theorem q16 : (Jvm.Cond.instanceMethod ({ cls := "RotationSort", name := "<init>", desc := "()V" } : Jvm.MethodName)) ∈ lw_all := lw_g (lw_at lw_m0 8 rfl) rfl
theorem q17 : (Jvm.Cond.code ({ cls := "RotationSort", name := "<init>", desc := "()V" } : Jvm.MethodName) prog_1_method_1_code (1 : Nat) (Option.none : Option Jvm.ClassFile.FieldType)) ∈ lw_all := lw_g (lw_at lw_m0 9 rfl) rfl
theorem q18 : (Jvm.Cond.methodLink "RotationSort" (1 : Nat) ({ cls := "java/lang/Object", name := "<init>", desc := "()V" } : Jvm.MethodName)) ∈ lw_all := lw_g (lw_at lw_m0 10 rfl) rfl
theorem q21 : (Jvm.Cond.classLink "RotationSort" (19 : Nat) "RotationSort$Suffixes") ∈ lw_all := lw_g (lw_at lw_m0 13 rfl) rfl
theorem q23 : (Jvm.Cond.methodLinkNest "RotationSort" (21 : Nat) ({ cls := "RotationSort$Suffixes", name := "<init>", desc := "()V" } : Jvm.MethodName) "RotationSort") ∈ lw_tbl := lw_at lw_m0 15 rfl
theorem q32 : (Jvm.Cond.fieldLink "RotationSort" (9 : Nat) "RotationSort" "text" "[I") ∈ lw_all := lw_g (lw_at lw_m0 24 rfl) rfl
theorem q33 : (Jvm.Cond.fieldLink "RotationSort" (41 : Nat) "RotationSort" "size" "I") ∈ lw_all := lw_g (lw_at lw_m0 25 rfl) rfl
theorem q34 : (Jvm.Cond.fieldLink "RotationSort" (13 : Nat) "RotationSort" "column" "[I") ∈ lw_all := lw_g (lw_at lw_m0 26 rfl) rfl
theorem q35 : (Jvm.Cond.fieldLink "RotationSort" (16 : Nat) "RotationSort" "kept" "[I") ∈ lw_all := lw_g (lw_at lw_m0 27 rfl) rfl
theorem q36 : (Jvm.Cond.fieldLink "RotationSort" (69 : Nat) "RotationSort" "turned" "I") ∈ lw_all := lw_g (lw_at lw_m0 28 rfl) rfl
theorem q37 : (Jvm.Cond.fieldLink "RotationSort" (22 : Nat) "RotationSort" "suffixes" "LRotationSort$Suffixes;") ∈ lw_all := lw_g (lw_at lw_m0 29 rfl) rfl
theorem q38 : (Jvm.Cond.fieldLink "RotationSort" (26 : Nat) "RotationSort" "border" "[I") ∈ lw_all := lw_g (lw_at lw_m0 30 rfl) rfl
theorem q39 : (Jvm.Cond.fieldLink "RotationSort" (29 : Nat) "RotationSort" "root" "[I") ∈ lw_all := lw_g (lw_at lw_m0 31 rfl) rfl
theorem q40 : (Jvm.Cond.fieldLink "RotationSort" (32 : Nat) "RotationSort" "order" "[I") ∈ lw_all := lw_g (lw_at lw_m0 32 rfl) rfl
theorem q41 : (Jvm.Cond.fieldLink "RotationSort" (35 : Nat) "RotationSort" "names" "[I") ∈ lw_all := lw_g (lw_at lw_m0 33 rfl) rfl
theorem q42 : (Jvm.Cond.fieldLink "RotationSort" (38 : Nat) "RotationSort" "link" "[I") ∈ lw_all := lw_g (lw_at lw_m0 34 rfl) rfl
theorem q43 : (Jvm.Cond.laysFinal "RotationSort" "RotationSort" "text" "[I") ∈ lw_all := lw_g (lw_at lw_m0 35 rfl) rfl
theorem q44 : (Jvm.Cond.soleField "RotationSort" "text") ∈ lw_all := lw_g (lw_at lw_m0 36 rfl) rfl
theorem q45 : (Jvm.Cond.lays "RotationSort" "RotationSort" "size" "I") ∈ lw_all := lw_g (lw_at lw_m0 37 rfl) rfl
theorem q46 : (Jvm.Cond.soleField "RotationSort" "size") ∈ lw_all := lw_g (lw_at lw_m0 38 rfl) rfl
theorem q47 : (Jvm.Cond.laysFinal "RotationSort" "RotationSort" "column" "[I") ∈ lw_all := lw_g (lw_at lw_m0 39 rfl) rfl
theorem q48 : (Jvm.Cond.soleField "RotationSort" "column") ∈ lw_all := lw_g (lw_at lw_m0 40 rfl) rfl
theorem q49 : (Jvm.Cond.laysFinal "RotationSort" "RotationSort" "kept" "[I") ∈ lw_all := lw_g (lw_at lw_m0 41 rfl) rfl
theorem q50 : (Jvm.Cond.soleField "RotationSort" "kept") ∈ lw_all := lw_g (lw_at lw_m0 42 rfl) rfl
theorem q51 : (Jvm.Cond.lays "RotationSort" "RotationSort" "turned" "I") ∈ lw_all := lw_g (lw_at lw_m0 43 rfl) rfl
theorem q52 : (Jvm.Cond.soleField "RotationSort" "turned") ∈ lw_all := lw_g (lw_at lw_m0 44 rfl) rfl
theorem q53 : (Jvm.Cond.laysFinal "RotationSort" "RotationSort" "suffixes" "LRotationSort$Suffixes;") ∈ lw_all := lw_g (lw_at lw_m0 45 rfl) rfl
theorem q54 : (Jvm.Cond.soleField "RotationSort" "suffixes") ∈ lw_all := lw_g (lw_at lw_m0 46 rfl) rfl
theorem q55 : (Jvm.Cond.laysFinal "RotationSort" "RotationSort" "border" "[I") ∈ lw_all := lw_g (lw_at lw_m0 47 rfl) rfl
theorem q56 : (Jvm.Cond.soleField "RotationSort" "border") ∈ lw_all := lw_g (lw_at lw_m0 48 rfl) rfl
theorem q57 : (Jvm.Cond.laysFinal "RotationSort" "RotationSort" "root" "[I") ∈ lw_all := lw_g (lw_at lw_m0 49 rfl) rfl
theorem q58 : (Jvm.Cond.soleField "RotationSort" "root") ∈ lw_all := lw_g (lw_at lw_m0 50 rfl) rfl
theorem q59 : (Jvm.Cond.laysFinal "RotationSort" "RotationSort" "order" "[I") ∈ lw_all := lw_g (lw_at lw_m0 51 rfl) rfl
theorem q60 : (Jvm.Cond.soleField "RotationSort" "order") ∈ lw_all := lw_g (lw_at lw_m0 52 rfl) rfl
theorem q61 : (Jvm.Cond.laysFinal "RotationSort" "RotationSort" "names" "[I") ∈ lw_all := lw_g (lw_at lw_m0 53 rfl) rfl
theorem q62 : (Jvm.Cond.soleField "RotationSort" "names") ∈ lw_all := lw_g (lw_at lw_m0 54 rfl) rfl
theorem q63 : (Jvm.Cond.laysFinal "RotationSort" "RotationSort" "link" "[I") ∈ lw_all := lw_g (lw_at lw_m0 55 rfl) rfl
theorem q64 : (Jvm.Cond.soleField "RotationSort" "link") ∈ lw_all := lw_g (lw_at lw_m0 56 rfl) rfl
theorem q65 : (Jvm.Cond.superclass "RotationSort" "java/lang/Object") ∈ lw_all := lw_g (lw_at lw_m0 57 rfl) rfl
theorem q67 : (Jvm.Cond.instanceMethod ({ cls := "RotationSort", name := "put", desc := "(IIII)I" } : Jvm.MethodName)) ∈ lw_all := lw_g (lw_at lw_m0 59 rfl) rfl
theorem q68 : (Jvm.Cond.selects "RotationSort" ({ cls := "RotationSort", name := "put", desc := "(IIII)I" } : Jvm.MethodName) ({ cls := "RotationSort", name := "put", desc := "(IIII)I" } : Jvm.MethodName)) ∈ lw_all := lw_g (lw_at lw_m0 60 rfl) rfl
theorem q69 : (Jvm.Cond.code ({ cls := "RotationSort", name := "put", desc := "(IIII)I" } : Jvm.MethodName) prog_1_method_2_code (5 : Nat) (Option.some Jvm.ClassFile.FieldType.int)) ∈ lw_all := lw_g (lw_at lw_m0 61 rfl) rfl
theorem q71 : (Jvm.Cond.instanceMethod ({ cls := "RotationSort", name := "repeat", desc := "(II)I" } : Jvm.MethodName)) ∈ lw_all := lw_g (lw_at lw_m0 63 rfl) rfl
theorem q72 : (Jvm.Cond.selects "RotationSort" ({ cls := "RotationSort", name := "repeat", desc := "(II)I" } : Jvm.MethodName) ({ cls := "RotationSort", name := "repeat", desc := "(II)I" } : Jvm.MethodName)) ∈ lw_all := lw_g (lw_at lw_m0 64 rfl) rfl
theorem q73 : (Jvm.Cond.code ({ cls := "RotationSort", name := "repeat", desc := "(II)I" } : Jvm.MethodName) prog_1_method_3_code (6 : Nat) (Option.some Jvm.ClassFile.FieldType.int)) ∈ lw_all := lw_g (lw_at lw_m0 65 rfl) rfl
theorem q74 : (Jvm.Cond.constant "RotationSort" (47 : Nat) (2147483647 : Int32)) ∈ lw_all := lw_g (lw_at lw_m0 66 rfl) rfl
theorem q75 : (Jvm.Cond.methodLink "RotationSort" (48 : Nat) ({ cls := "java/lang/Math", name := "min", desc := "(II)I" } : Jvm.MethodName)) ∈ lw_all := lw_g (lw_at lw_m0 67 rfl) rfl
theorem q79 : (Jvm.Cond.instanceMethod ({ cls := "RotationSort", name := "turn", desc := "()Z" } : Jvm.MethodName)) ∈ lw_all := lw_g (lw_at lw_m0 71 rfl) rfl
theorem q80 : (Jvm.Cond.selects "RotationSort" ({ cls := "RotationSort", name := "turn", desc := "()Z" } : Jvm.MethodName) ({ cls := "RotationSort", name := "turn", desc := "()Z" } : Jvm.MethodName)) ∈ lw_all := lw_g (lw_at lw_m0 72 rfl) rfl
theorem q81 : (Jvm.Cond.code ({ cls := "RotationSort", name := "turn", desc := "()Z" } : Jvm.MethodName) prog_1_method_7_code (9 : Nat) (Option.some Jvm.ClassFile.FieldType.boolean)) ∈ lw_all := lw_g (lw_at lw_m0 73 rfl) rfl
theorem q82 : (Jvm.Cond.methodLink "RotationSort" (54 : Nat) ({ cls := "RotationSort", name := "period", desc := "()I" } : Jvm.MethodName)) ∈ lw_all := lw_g (lw_at lw_m0 74 rfl) rfl
theorem q83 : (Jvm.Cond.privateMethod ({ cls := "RotationSort", name := "period", desc := "()I" } : Jvm.MethodName)) ∈ lw_tbl := lw_at lw_m0 75 rfl
theorem q84 : (Jvm.Cond.instanceMethod ({ cls := "RotationSort", name := "period", desc := "()I" } : Jvm.MethodName)) ∈ lw_all := lw_g (lw_at lw_m0 76 rfl) rfl
theorem q85 : (Jvm.Cond.code ({ cls := "RotationSort", name := "period", desc := "()I" } : Jvm.MethodName) prog_1_method_4_code (3 : Nat) (Option.some Jvm.ClassFile.FieldType.int)) ∈ lw_all := lw_g (lw_at lw_m0 77 rfl) rfl
theorem q86 : (Jvm.Cond.methodLink "RotationSort" (58 : Nat) ({ cls := "RotationSort", name := "least", desc := "(I)I" } : Jvm.MethodName)) ∈ lw_all := lw_g (lw_at lw_m0 78 rfl) rfl
theorem q87 : (Jvm.Cond.privateMethod ({ cls := "RotationSort", name := "least", desc := "(I)I" } : Jvm.MethodName)) ∈ lw_tbl := lw_at lw_m0 79 rfl
theorem q88 : (Jvm.Cond.instanceMethod ({ cls := "RotationSort", name := "least", desc := "(I)I" } : Jvm.MethodName)) ∈ lw_all := lw_g (lw_at lw_m0 80 rfl) rfl
theorem q89 : (Jvm.Cond.code ({ cls := "RotationSort", name := "least", desc := "(I)I" } : Jvm.MethodName) prog_1_method_5_code (6 : Nat) (Option.some Jvm.ClassFile.FieldType.int)) ∈ lw_all := lw_g (lw_at lw_m0 81 rfl) rfl
theorem q90 : (Jvm.Cond.methodLink "RotationSort" (62 : Nat) ({ cls := "RotationSort", name := "name", desc := "(II)I" } : Jvm.MethodName)) ∈ lw_all := lw_g (lw_at lw_m0 82 rfl) rfl
theorem q91 : (Jvm.Cond.privateMethod ({ cls := "RotationSort", name := "name", desc := "(II)I" } : Jvm.MethodName)) ∈ lw_tbl := lw_at lw_m0 83 rfl
theorem q92 : (Jvm.Cond.instanceMethod ({ cls := "RotationSort", name := "name", desc := "(II)I" } : Jvm.MethodName)) ∈ lw_all := lw_g (lw_at lw_m0 84 rfl) rfl
theorem q93 : (Jvm.Cond.code ({ cls := "RotationSort", name := "name", desc := "(II)I" } : Jvm.MethodName) prog_1_method_6_code (5 : Nat) (Option.some Jvm.ClassFile.FieldType.int)) ∈ lw_all := lw_g (lw_at lw_m0 85 rfl) rfl
theorem q94 : (Jvm.Cond.methodLink "RotationSort" (65 : Nat) ({ cls := "RotationSort$Suffixes", name := "sort", desc := "([I[III)V" } : Jvm.MethodName)) ∈ lw_all := lw_g (lw_at lw_m0 86 rfl) rfl
theorem q117 : (Jvm.Cond.methodLink "RotationSort" (72 : Nat) ({ cls := "RotationSort", name := "goBack", desc := "(I)V" } : Jvm.MethodName)) ∈ lw_all := lw_g (lw_at lw_m0 109 rfl) rfl
theorem q118 : (Jvm.Cond.privateMethod ({ cls := "RotationSort", name := "goBack", desc := "(I)V" } : Jvm.MethodName)) ∈ lw_tbl := lw_at lw_m0 110 rfl
theorem q119 : (Jvm.Cond.instanceMethod ({ cls := "RotationSort", name := "goBack", desc := "(I)V" } : Jvm.MethodName)) ∈ lw_all := lw_g (lw_at lw_m0 111 rfl) rfl
theorem q120 : (Jvm.Cond.code ({ cls := "RotationSort", name := "goBack", desc := "(I)V" } : Jvm.MethodName) prog_1_method_8_code (5 : Nat) (Option.none : Option Jvm.ClassFile.FieldType)) ∈ lw_all := lw_g (lw_at lw_m0 112 rfl) rfl
theorem q122 : (Jvm.Cond.instanceMethod ({ cls := "RotationSort", name := "at", desc := "(I)I" } : Jvm.MethodName)) ∈ lw_all := lw_g (lw_at lw_m0 114 rfl) rfl
theorem q123 : (Jvm.Cond.selects "RotationSort" ({ cls := "RotationSort", name := "at", desc := "(I)I" } : Jvm.MethodName) ({ cls := "RotationSort", name := "at", desc := "(I)I" } : Jvm.MethodName)) ∈ lw_all := lw_g (lw_at lw_m0 115 rfl) rfl
theorem q124 : (Jvm.Cond.code ({ cls := "RotationSort", name := "at", desc := "(I)I" } : Jvm.MethodName) prog_1_method_9_code (2 : Nat) (Option.some Jvm.ClassFile.FieldType.int)) ∈ lw_all := lw_g (lw_at lw_m0 116 rfl) rfl
theorem q126 : (Jvm.Cond.instanceMethod ({ cls := "RotationSort", name := "back", desc := "(I)I" } : Jvm.MethodName)) ∈ lw_all := lw_g (lw_at lw_m0 118 rfl) rfl
theorem q127 : (Jvm.Cond.selects "RotationSort" ({ cls := "RotationSort", name := "back", desc := "(I)I" } : Jvm.MethodName) ({ cls := "RotationSort", name := "back", desc := "(I)I" } : Jvm.MethodName)) ∈ lw_all := lw_g (lw_at lw_m0 119 rfl) rfl
theorem q128 : (Jvm.Cond.code ({ cls := "RotationSort", name := "back", desc := "(I)I" } : Jvm.MethodName) prog_1_method_10_code (2 : Nat) (Option.some Jvm.ClassFile.FieldType.int)) ∈ lw_all := lw_g (lw_at lw_m0 120 rfl) rfl
theorem q130 : (Jvm.Cond.instanceMethod ({ cls := "RotationSort", name := "clear", desc := "()V" } : Jvm.MethodName)) ∈ lw_all := lw_g (lw_at lw_m0 122 rfl) rfl
theorem q131 : (Jvm.Cond.selects "RotationSort" ({ cls := "RotationSort", name := "clear", desc := "()V" } : Jvm.MethodName) ({ cls := "RotationSort", name := "clear", desc := "()V" } : Jvm.MethodName)) ∈ lw_all := lw_g (lw_at lw_m0 123 rfl) rfl
theorem q132 : (Jvm.Cond.code ({ cls := "RotationSort", name := "clear", desc := "()V" } : Jvm.MethodName) prog_1_method_11_code (1 : Nat) (Option.none : Option Jvm.ClassFile.FieldType)) ∈ lw_all := lw_g (lw_at lw_m0 124 rfl) rfl
theorem in_X0 : ∀ w ∈ wsX00, w ∈ lw_all := lw_in wsX00 [43, 45, 47, 49, 51, 53, 55, 57, 59, 61, 63] (by decide +kernel) (by decide +kernel)
end
section
/-! RotationSort$Suffixes -/
set_option maxRecDepth 100000
def RX1 : String := "RotationSort$Suffixes"
def TX1 : u_T := fun k => match k with
  | _ => ("RotationSort$Suffixes", "count", "[I", true)
def tyX1 : Nat → FieldType := fun k => match k with
  | _ => .array .int
abbrev wsX10 : List Cond := u_ws RX1 TX1 1
theorem nmX1 : ∀ a, a < 1 → ∀ b, b < 1 → a ≠ b → (TX1 a).2.1 ≠ (TX1 b).2.1 := by decide +kernel
theorem tyX1_ok : ∀ k, k < 1 → parseFieldDescriptor (TX1 k).2.2.1 = some (tyX1 k) := by decide +kernel
abbrev cX1_init : ByteArray := prog_2_method_1_code
def yX1_init : MethodName := ⟨RX1, "<init>", "()V"⟩
theorem dX1_init_0 : decode cX1_init 0 = .ok (.aload_n 0, 1) := by decide +kernel
theorem dX1_init_1 : decode cX1_init 1 = .ok (.invokespecial 3, 3) := by decide +kernel
theorem dX1_init_4 : decode cX1_init 4 = .ok (.aload_n 0, 1) := by decide +kernel
theorem dX1_init_5 : decode cX1_init 5 = .ok (.sipush 264, 3) := by decide +kernel
theorem dX1_init_8 : decode cX1_init 8 = .ok (.newarray .int, 2) := by decide +kernel
theorem dX1_init_10 : decode cX1_init 10 = .ok (.putfield 9, 3) := by decide +kernel
theorem dX1_init_13 : decode cX1_init 13 = .ok (.return_, 1) := by decide +kernel
abbrev cX1_sort : ByteArray := prog_2_method_3_code
def yX1_sort : MethodName := ⟨RX1, "sort", "([I[III)V"⟩
theorem dX1_sort_0 : decode cX1_sort 0 = .ok (.iload_n 3, 1) := by decide +kernel
theorem dX1_sort_1 : decode cX1_sort 1 = .ok (.iconst 1, 1) := by decide +kernel
theorem dX1_sort_2 : decode cX1_sort 2 = .ok (.if_icmp .ne 8, 3) := by decide +kernel
theorem dX1_sort_5 : decode cX1_sort 5 = .ok (.aload_n 2, 1) := by decide +kernel
theorem dX1_sort_6 : decode cX1_sort 6 = .ok (.iconst 0, 1) := by decide +kernel
theorem dX1_sort_7 : decode cX1_sort 7 = .ok (.iconst 0, 1) := by decide +kernel
theorem dX1_sort_8 : decode cX1_sort 8 = .ok (.iastore, 1) := by decide +kernel
theorem dX1_sort_9 : decode cX1_sort 9 = .ok (.return_, 1) := by decide +kernel
theorem dX1_sort_10 : decode cX1_sort 10 = .ok (.iload_n 3, 1) := by decide +kernel
theorem dX1_sort_11 : decode cX1_sort 11 = .ok (.iconst 2, 1) := by decide +kernel
theorem dX1_sort_12 : decode cX1_sort 12 = .ok (.iadd, 1) := by decide +kernel
theorem dX1_sort_13 : decode cX1_sort 13 = .ok (.iconst 3, 1) := by decide +kernel
theorem dX1_sort_14 : decode cX1_sort 14 = .ok (.idiv, 1) := by decide +kernel
theorem dX1_sort_15 : decode cX1_sort 15 = .ok (.istore 5, 2) := by decide +kernel
theorem dX1_sort_17 : decode cX1_sort 17 = .ok (.iload_n 3, 1) := by decide +kernel
theorem dX1_sort_18 : decode cX1_sort 18 = .ok (.iconst 1, 1) := by decide +kernel
theorem dX1_sort_19 : decode cX1_sort 19 = .ok (.iadd, 1) := by decide +kernel
theorem dX1_sort_20 : decode cX1_sort 20 = .ok (.iconst 3, 1) := by decide +kernel
theorem dX1_sort_21 : decode cX1_sort 21 = .ok (.idiv, 1) := by decide +kernel
theorem dX1_sort_22 : decode cX1_sort 22 = .ok (.istore 6, 2) := by decide +kernel
theorem dX1_sort_24 : decode cX1_sort 24 = .ok (.iload_n 3, 1) := by decide +kernel
theorem dX1_sort_25 : decode cX1_sort 25 = .ok (.iconst 3, 1) := by decide +kernel
theorem dX1_sort_26 : decode cX1_sort 26 = .ok (.idiv, 1) := by decide +kernel
theorem dX1_sort_27 : decode cX1_sort 27 = .ok (.istore 7, 2) := by decide +kernel
theorem dX1_sort_29 : decode cX1_sort 29 = .ok (.iload 5, 2) := by decide +kernel
theorem dX1_sort_31 : decode cX1_sort 31 = .ok (.iload 7, 2) := by decide +kernel
theorem dX1_sort_33 : decode cX1_sort 33 = .ok (.iadd, 1) := by decide +kernel
theorem dX1_sort_34 : decode cX1_sort 34 = .ok (.istore 8, 2) := by decide +kernel
theorem dX1_sort_36 : decode cX1_sort 36 = .ok (.iload 8, 2) := by decide +kernel
theorem dX1_sort_38 : decode cX1_sort 38 = .ok (.iconst 3, 1) := by decide +kernel
theorem dX1_sort_39 : decode cX1_sort 39 = .ok (.iadd, 1) := by decide +kernel
theorem dX1_sort_40 : decode cX1_sort 40 = .ok (.newarray .int, 2) := by decide +kernel
theorem dX1_sort_42 : decode cX1_sort 42 = .ok (.astore 9, 2) := by decide +kernel
theorem dX1_sort_44 : decode cX1_sort 44 = .ok (.iload 8, 2) := by decide +kernel
theorem dX1_sort_46 : decode cX1_sort 46 = .ok (.iconst 3, 1) := by decide +kernel
theorem dX1_sort_47 : decode cX1_sort 47 = .ok (.iadd, 1) := by decide +kernel
theorem dX1_sort_48 : decode cX1_sort 48 = .ok (.newarray .int, 2) := by decide +kernel
theorem dX1_sort_50 : decode cX1_sort 50 = .ok (.astore 10, 2) := by decide +kernel
theorem dX1_sort_52 : decode cX1_sort 52 = .ok (.iload 5, 2) := by decide +kernel
theorem dX1_sort_54 : decode cX1_sort 54 = .ok (.newarray .int, 2) := by decide +kernel
theorem dX1_sort_56 : decode cX1_sort 56 = .ok (.astore 11, 2) := by decide +kernel
theorem dX1_sort_58 : decode cX1_sort 58 = .ok (.iload 5, 2) := by decide +kernel
theorem dX1_sort_60 : decode cX1_sort 60 = .ok (.newarray .int, 2) := by decide +kernel
theorem dX1_sort_62 : decode cX1_sort 62 = .ok (.astore 12, 2) := by decide +kernel
theorem dX1_sort_64 : decode cX1_sort 64 = .ok (.iconst 0, 1) := by decide +kernel
theorem dX1_sort_65 : decode cX1_sort 65 = .ok (.istore 13, 2) := by decide +kernel
theorem dX1_sort_67 : decode cX1_sort 67 = .ok (.iconst 0, 1) := by decide +kernel
theorem dX1_sort_68 : decode cX1_sort 68 = .ok (.istore 14, 2) := by decide +kernel
theorem dX1_sort_70 : decode cX1_sort 70 = .ok (.iload 14, 2) := by decide +kernel
theorem dX1_sort_72 : decode cX1_sort 72 = .ok (.iload_n 3, 1) := by decide +kernel
theorem dX1_sort_73 : decode cX1_sort 73 = .ok (.iload 5, 2) := by decide +kernel
theorem dX1_sort_75 : decode cX1_sort 75 = .ok (.iadd, 1) := by decide +kernel
theorem dX1_sort_76 : decode cX1_sort 76 = .ok (.iload 6, 2) := by decide +kernel
theorem dX1_sort_78 : decode cX1_sort 78 = .ok (.isub, 1) := by decide +kernel
theorem dX1_sort_79 : decode cX1_sort 79 = .ok (.if_icmp .ge 29, 3) := by decide +kernel
theorem dX1_sort_82 : decode cX1_sort 82 = .ok (.iload 14, 2) := by decide +kernel
theorem dX1_sort_84 : decode cX1_sort 84 = .ok (.iconst 3, 1) := by decide +kernel
theorem dX1_sort_85 : decode cX1_sort 85 = .ok (.irem, 1) := by decide +kernel
theorem dX1_sort_86 : decode cX1_sort 86 = .ok (.ifCond .ne 6, 3) := by decide +kernel
theorem dX1_sort_89 : decode cX1_sort 89 = .ok (.goto 13, 3) := by decide +kernel
theorem dX1_sort_92 : decode cX1_sort 92 = .ok (.aload 9, 2) := by decide +kernel
theorem dX1_sort_94 : decode cX1_sort 94 = .ok (.iload 13, 2) := by decide +kernel
theorem dX1_sort_96 : decode cX1_sort 96 = .ok (.iload 14, 2) := by decide +kernel
theorem dX1_sort_98 : decode cX1_sort 98 = .ok (.iastore, 1) := by decide +kernel
theorem dX1_sort_99 : decode cX1_sort 99 = .ok (.iinc 13 1, 3) := by decide +kernel
theorem dX1_sort_102 : decode cX1_sort 102 = .ok (.iinc 14 1, 3) := by decide +kernel
theorem dX1_sort_105 : decode cX1_sort 105 = .ok (.goto (-35), 3) := by decide +kernel
theorem dX1_sort_108 : decode cX1_sort 108 = .ok (.aload_n 0, 1) := by decide +kernel
theorem dX1_sort_109 : decode cX1_sort 109 = .ok (.aload 9, 2) := by decide +kernel
theorem dX1_sort_111 : decode cX1_sort 111 = .ok (.aload 10, 2) := by decide +kernel
theorem dX1_sort_113 : decode cX1_sort 113 = .ok (.aload_n 1, 1) := by decide +kernel
theorem dX1_sort_114 : decode cX1_sort 114 = .ok (.iconst 2, 1) := by decide +kernel
theorem dX1_sort_115 : decode cX1_sort 115 = .ok (.iload 8, 2) := by decide +kernel
theorem dX1_sort_117 : decode cX1_sort 117 = .ok (.iload 4, 2) := by decide +kernel
theorem dX1_sort_119 : decode cX1_sort 119 = .ok (.invokevirtual 15, 3) := by decide +kernel
theorem dX1_sort_122 : decode cX1_sort 122 = .ok (.aload_n 0, 1) := by decide +kernel
theorem dX1_sort_123 : decode cX1_sort 123 = .ok (.aload 10, 2) := by decide +kernel
theorem dX1_sort_125 : decode cX1_sort 125 = .ok (.aload 9, 2) := by decide +kernel
theorem dX1_sort_127 : decode cX1_sort 127 = .ok (.aload_n 1, 1) := by decide +kernel
theorem dX1_sort_128 : decode cX1_sort 128 = .ok (.iconst 1, 1) := by decide +kernel
theorem dX1_sort_129 : decode cX1_sort 129 = .ok (.iload 8, 2) := by decide +kernel
theorem dX1_sort_131 : decode cX1_sort 131 = .ok (.iload 4, 2) := by decide +kernel
theorem dX1_sort_133 : decode cX1_sort 133 = .ok (.invokevirtual 15, 3) := by decide +kernel
theorem dX1_sort_136 : decode cX1_sort 136 = .ok (.aload_n 0, 1) := by decide +kernel
theorem dX1_sort_137 : decode cX1_sort 137 = .ok (.aload 9, 2) := by decide +kernel
theorem dX1_sort_139 : decode cX1_sort 139 = .ok (.aload 10, 2) := by decide +kernel
theorem dX1_sort_141 : decode cX1_sort 141 = .ok (.aload_n 1, 1) := by decide +kernel
theorem dX1_sort_142 : decode cX1_sort 142 = .ok (.iconst 0, 1) := by decide +kernel
theorem dX1_sort_143 : decode cX1_sort 143 = .ok (.iload 8, 2) := by decide +kernel
theorem dX1_sort_145 : decode cX1_sort 145 = .ok (.iload 4, 2) := by decide +kernel
theorem dX1_sort_147 : decode cX1_sort 147 = .ok (.invokevirtual 15, 3) := by decide +kernel
theorem dX1_sort_150 : decode cX1_sort 150 = .ok (.aload_n 0, 1) := by decide +kernel
theorem dX1_sort_151 : decode cX1_sort 151 = .ok (.aload_n 1, 1) := by decide +kernel
theorem dX1_sort_152 : decode cX1_sort 152 = .ok (.aload 9, 2) := by decide +kernel
theorem dX1_sort_154 : decode cX1_sort 154 = .ok (.aload 10, 2) := by decide +kernel
theorem dX1_sort_156 : decode cX1_sort 156 = .ok (.iload 5, 2) := by decide +kernel
theorem dX1_sort_158 : decode cX1_sort 158 = .ok (.iload 8, 2) := by decide +kernel
theorem dX1_sort_160 : decode cX1_sort 160 = .ok (.invokevirtual 19, 3) := by decide +kernel
theorem dX1_sort_163 : decode cX1_sort 163 = .ok (.istore 14, 2) := by decide +kernel
theorem dX1_sort_165 : decode cX1_sort 165 = .ok (.iload 14, 2) := by decide +kernel
theorem dX1_sort_167 : decode cX1_sort 167 = .ok (.iload 8, 2) := by decide +kernel
theorem dX1_sort_169 : decode cX1_sort 169 = .ok (.if_icmp .ge 46, 3) := by decide +kernel
theorem dX1_sort_172 : decode cX1_sort 172 = .ok (.aload_n 0, 1) := by decide +kernel
theorem dX1_sort_173 : decode cX1_sort 173 = .ok (.aload 9, 2) := by decide +kernel
theorem dX1_sort_175 : decode cX1_sort 175 = .ok (.aload 10, 2) := by decide +kernel
theorem dX1_sort_177 : decode cX1_sort 177 = .ok (.iload 8, 2) := by decide +kernel
theorem dX1_sort_179 : decode cX1_sort 179 = .ok (.iload 14, 2) := by decide +kernel
theorem dX1_sort_181 : decode cX1_sort 181 = .ok (.invokevirtual 23, 3) := by decide +kernel
theorem dX1_sort_184 : decode cX1_sort 184 = .ok (.iconst 0, 1) := by decide +kernel
theorem dX1_sort_185 : decode cX1_sort 185 = .ok (.istore 15, 2) := by decide +kernel
theorem dX1_sort_187 : decode cX1_sort 187 = .ok (.iload 15, 2) := by decide +kernel
theorem dX1_sort_189 : decode cX1_sort 189 = .ok (.iload 8, 2) := by decide +kernel
theorem dX1_sort_191 : decode cX1_sort 191 = .ok (.if_icmp .ge 21, 3) := by decide +kernel
theorem dX1_sort_194 : decode cX1_sort 194 = .ok (.aload 9, 2) := by decide +kernel
theorem dX1_sort_196 : decode cX1_sort 196 = .ok (.aload 10, 2) := by decide +kernel
theorem dX1_sort_198 : decode cX1_sort 198 = .ok (.iload 15, 2) := by decide +kernel
theorem dX1_sort_200 : decode cX1_sort 200 = .ok (.iaload, 1) := by decide +kernel
theorem dX1_sort_201 : decode cX1_sort 201 = .ok (.iload 15, 2) := by decide +kernel
theorem dX1_sort_203 : decode cX1_sort 203 = .ok (.iconst 1, 1) := by decide +kernel
theorem dX1_sort_204 : decode cX1_sort 204 = .ok (.iadd, 1) := by decide +kernel
theorem dX1_sort_205 : decode cX1_sort 205 = .ok (.iastore, 1) := by decide +kernel
theorem dX1_sort_206 : decode cX1_sort 206 = .ok (.iinc 15 1, 3) := by decide +kernel
theorem dX1_sort_209 : decode cX1_sort 209 = .ok (.goto (-22), 3) := by decide +kernel
theorem dX1_sort_212 : decode cX1_sort 212 = .ok (.goto 31, 3) := by decide +kernel
theorem dX1_sort_215 : decode cX1_sort 215 = .ok (.iconst 0, 1) := by decide +kernel
theorem dX1_sort_216 : decode cX1_sort 216 = .ok (.istore 15, 2) := by decide +kernel
theorem dX1_sort_218 : decode cX1_sort 218 = .ok (.iload 15, 2) := by decide +kernel
theorem dX1_sort_220 : decode cX1_sort 220 = .ok (.iload 8, 2) := by decide +kernel
theorem dX1_sort_222 : decode cX1_sort 222 = .ok (.if_icmp .ge 21, 3) := by decide +kernel
theorem dX1_sort_225 : decode cX1_sort 225 = .ok (.aload 10, 2) := by decide +kernel
theorem dX1_sort_227 : decode cX1_sort 227 = .ok (.aload 9, 2) := by decide +kernel
theorem dX1_sort_229 : decode cX1_sort 229 = .ok (.iload 15, 2) := by decide +kernel
theorem dX1_sort_231 : decode cX1_sort 231 = .ok (.iaload, 1) := by decide +kernel
theorem dX1_sort_232 : decode cX1_sort 232 = .ok (.iconst 1, 1) := by decide +kernel
theorem dX1_sort_233 : decode cX1_sort 233 = .ok (.isub, 1) := by decide +kernel
theorem dX1_sort_234 : decode cX1_sort 234 = .ok (.iload 15, 2) := by decide +kernel
theorem dX1_sort_236 : decode cX1_sort 236 = .ok (.iastore, 1) := by decide +kernel
theorem dX1_sort_237 : decode cX1_sort 237 = .ok (.iinc 15 1, 3) := by decide +kernel
theorem dX1_sort_240 : decode cX1_sort 240 = .ok (.goto (-22), 3) := by decide +kernel
theorem dX1_sort_243 : decode cX1_sort 243 = .ok (.iconst 0, 1) := by decide +kernel
theorem dX1_sort_244 : decode cX1_sort 244 = .ok (.istore 13, 2) := by decide +kernel
theorem dX1_sort_246 : decode cX1_sort 246 = .ok (.iconst 0, 1) := by decide +kernel
theorem dX1_sort_247 : decode cX1_sort 247 = .ok (.istore 15, 2) := by decide +kernel
theorem dX1_sort_249 : decode cX1_sort 249 = .ok (.iload 15, 2) := by decide +kernel
theorem dX1_sort_251 : decode cX1_sort 251 = .ok (.iload 8, 2) := by decide +kernel
theorem dX1_sort_253 : decode cX1_sort 253 = .ok (.if_icmp .ge 37, 3) := by decide +kernel
theorem dX1_sort_256 : decode cX1_sort 256 = .ok (.aload 10, 2) := by decide +kernel
theorem dX1_sort_258 : decode cX1_sort 258 = .ok (.iload 15, 2) := by decide +kernel
theorem dX1_sort_260 : decode cX1_sort 260 = .ok (.iaload, 1) := by decide +kernel
theorem dX1_sort_261 : decode cX1_sort 261 = .ok (.iload 5, 2) := by decide +kernel
theorem dX1_sort_263 : decode cX1_sort 263 = .ok (.if_icmp .lt 6, 3) := by decide +kernel
theorem dX1_sort_266 : decode cX1_sort 266 = .ok (.goto 18, 3) := by decide +kernel
theorem dX1_sort_269 : decode cX1_sort 269 = .ok (.aload 11, 2) := by decide +kernel
theorem dX1_sort_271 : decode cX1_sort 271 = .ok (.iload 13, 2) := by decide +kernel
theorem dX1_sort_273 : decode cX1_sort 273 = .ok (.iconst 3, 1) := by decide +kernel
theorem dX1_sort_274 : decode cX1_sort 274 = .ok (.aload 10, 2) := by decide +kernel
theorem dX1_sort_276 : decode cX1_sort 276 = .ok (.iload 15, 2) := by decide +kernel
theorem dX1_sort_278 : decode cX1_sort 278 = .ok (.iaload, 1) := by decide +kernel
theorem dX1_sort_279 : decode cX1_sort 279 = .ok (.imul, 1) := by decide +kernel
theorem dX1_sort_280 : decode cX1_sort 280 = .ok (.iastore, 1) := by decide +kernel
theorem dX1_sort_281 : decode cX1_sort 281 = .ok (.iinc 13 1, 3) := by decide +kernel
theorem dX1_sort_284 : decode cX1_sort 284 = .ok (.iinc 15 1, 3) := by decide +kernel
theorem dX1_sort_287 : decode cX1_sort 287 = .ok (.goto (-38), 3) := by decide +kernel
theorem dX1_sort_290 : decode cX1_sort 290 = .ok (.aload_n 0, 1) := by decide +kernel
theorem dX1_sort_291 : decode cX1_sort 291 = .ok (.aload 11, 2) := by decide +kernel
theorem dX1_sort_293 : decode cX1_sort 293 = .ok (.aload 12, 2) := by decide +kernel
theorem dX1_sort_295 : decode cX1_sort 295 = .ok (.aload_n 1, 1) := by decide +kernel
theorem dX1_sort_296 : decode cX1_sort 296 = .ok (.iconst 0, 1) := by decide +kernel
theorem dX1_sort_297 : decode cX1_sort 297 = .ok (.iload 5, 2) := by decide +kernel
theorem dX1_sort_299 : decode cX1_sort 299 = .ok (.iload 4, 2) := by decide +kernel
theorem dX1_sort_301 : decode cX1_sort 301 = .ok (.invokevirtual 15, 3) := by decide +kernel
theorem dX1_sort_304 : decode cX1_sort 304 = .ok (.aload_n 0, 1) := by decide +kernel
theorem dX1_sort_305 : decode cX1_sort 305 = .ok (.aload_n 1, 1) := by decide +kernel
theorem dX1_sort_306 : decode cX1_sort 306 = .ok (.aload_n 2, 1) := by decide +kernel
theorem dX1_sort_307 : decode cX1_sort 307 = .ok (.iload_n 3, 1) := by decide +kernel
theorem dX1_sort_308 : decode cX1_sort 308 = .ok (.aload 9, 2) := by decide +kernel
theorem dX1_sort_310 : decode cX1_sort 310 = .ok (.aload 10, 2) := by decide +kernel
theorem dX1_sort_312 : decode cX1_sort 312 = .ok (.aload 12, 2) := by decide +kernel
theorem dX1_sort_314 : decode cX1_sort 314 = .ok (.invokevirtual 27, 3) := by decide +kernel
theorem dX1_sort_317 : decode cX1_sort 317 = .ok (.return_, 1) := by decide +kernel
abbrev cX1_pass : ByteArray := prog_2_method_2_code
def yX1_pass : MethodName := ⟨RX1, "pass", "([I[I[IIII)V"⟩
theorem dX1_pass_0 : decode cX1_pass 0 = .ok (.iconst 0, 1) := by decide +kernel
theorem dX1_pass_1 : decode cX1_pass 1 = .ok (.istore 7, 2) := by decide +kernel
theorem dX1_pass_3 : decode cX1_pass 3 = .ok (.iload 7, 2) := by decide +kernel
theorem dX1_pass_5 : decode cX1_pass 5 = .ok (.iload 6, 2) := by decide +kernel
theorem dX1_pass_7 : decode cX1_pass 7 = .ok (.if_icmp .gt 17, 3) := by decide +kernel
theorem dX1_pass_10 : decode cX1_pass 10 = .ok (.aload_n 0, 1) := by decide +kernel
theorem dX1_pass_11 : decode cX1_pass 11 = .ok (.getfield 9, 3) := by decide +kernel
theorem dX1_pass_14 : decode cX1_pass 14 = .ok (.iload 7, 2) := by decide +kernel
theorem dX1_pass_16 : decode cX1_pass 16 = .ok (.iconst 0, 1) := by decide +kernel
theorem dX1_pass_17 : decode cX1_pass 17 = .ok (.iastore, 1) := by decide +kernel
theorem dX1_pass_18 : decode cX1_pass 18 = .ok (.iinc 7 1, 3) := by decide +kernel
theorem dX1_pass_21 : decode cX1_pass 21 = .ok (.goto (-18), 3) := by decide +kernel
theorem dX1_pass_24 : decode cX1_pass 24 = .ok (.iconst 0, 1) := by decide +kernel
theorem dX1_pass_25 : decode cX1_pass 25 = .ok (.istore 7, 2) := by decide +kernel
theorem dX1_pass_27 : decode cX1_pass 27 = .ok (.iload 7, 2) := by decide +kernel
theorem dX1_pass_29 : decode cX1_pass 29 = .ok (.iload 5, 2) := by decide +kernel
theorem dX1_pass_31 : decode cX1_pass 31 = .ok (.if_icmp .ge 27, 3) := by decide +kernel
theorem dX1_pass_34 : decode cX1_pass 34 = .ok (.aload_n 0, 1) := by decide +kernel
theorem dX1_pass_35 : decode cX1_pass 35 = .ok (.getfield 9, 3) := by decide +kernel
theorem dX1_pass_38 : decode cX1_pass 38 = .ok (.aload_n 3, 1) := by decide +kernel
theorem dX1_pass_39 : decode cX1_pass 39 = .ok (.aload_n 1, 1) := by decide +kernel
theorem dX1_pass_40 : decode cX1_pass 40 = .ok (.iload 7, 2) := by decide +kernel
theorem dX1_pass_42 : decode cX1_pass 42 = .ok (.iaload, 1) := by decide +kernel
theorem dX1_pass_43 : decode cX1_pass 43 = .ok (.iload 4, 2) := by decide +kernel
theorem dX1_pass_45 : decode cX1_pass 45 = .ok (.iadd, 1) := by decide +kernel
theorem dX1_pass_46 : decode cX1_pass 46 = .ok (.iaload, 1) := by decide +kernel
theorem dX1_pass_47 : decode cX1_pass 47 = .ok (.dup2, 1) := by decide +kernel
theorem dX1_pass_48 : decode cX1_pass 48 = .ok (.iaload, 1) := by decide +kernel
theorem dX1_pass_49 : decode cX1_pass 49 = .ok (.iconst 1, 1) := by decide +kernel
theorem dX1_pass_50 : decode cX1_pass 50 = .ok (.iadd, 1) := by decide +kernel
theorem dX1_pass_51 : decode cX1_pass 51 = .ok (.iastore, 1) := by decide +kernel
theorem dX1_pass_52 : decode cX1_pass 52 = .ok (.iinc 7 1, 3) := by decide +kernel
theorem dX1_pass_55 : decode cX1_pass 55 = .ok (.goto (-28), 3) := by decide +kernel
theorem dX1_pass_58 : decode cX1_pass 58 = .ok (.iconst 0, 1) := by decide +kernel
theorem dX1_pass_59 : decode cX1_pass 59 = .ok (.istore 7, 2) := by decide +kernel
theorem dX1_pass_61 : decode cX1_pass 61 = .ok (.iconst 0, 1) := by decide +kernel
theorem dX1_pass_62 : decode cX1_pass 62 = .ok (.istore 8, 2) := by decide +kernel
theorem dX1_pass_64 : decode cX1_pass 64 = .ok (.iload 8, 2) := by decide +kernel
theorem dX1_pass_66 : decode cX1_pass 66 = .ok (.iload 6, 2) := by decide +kernel
theorem dX1_pass_68 : decode cX1_pass 68 = .ok (.if_icmp .gt 34, 3) := by decide +kernel
theorem dX1_pass_71 : decode cX1_pass 71 = .ok (.aload_n 0, 1) := by decide +kernel
theorem dX1_pass_72 : decode cX1_pass 72 = .ok (.getfield 9, 3) := by decide +kernel
theorem dX1_pass_75 : decode cX1_pass 75 = .ok (.iload 8, 2) := by decide +kernel
theorem dX1_pass_77 : decode cX1_pass 77 = .ok (.iaload, 1) := by decide +kernel
theorem dX1_pass_78 : decode cX1_pass 78 = .ok (.istore 9, 2) := by decide +kernel
theorem dX1_pass_80 : decode cX1_pass 80 = .ok (.aload_n 0, 1) := by decide +kernel
theorem dX1_pass_81 : decode cX1_pass 81 = .ok (.getfield 9, 3) := by decide +kernel
theorem dX1_pass_84 : decode cX1_pass 84 = .ok (.iload 8, 2) := by decide +kernel
theorem dX1_pass_86 : decode cX1_pass 86 = .ok (.iload 7, 2) := by decide +kernel
theorem dX1_pass_88 : decode cX1_pass 88 = .ok (.iastore, 1) := by decide +kernel
theorem dX1_pass_89 : decode cX1_pass 89 = .ok (.iload 7, 2) := by decide +kernel
theorem dX1_pass_91 : decode cX1_pass 91 = .ok (.iload 9, 2) := by decide +kernel
theorem dX1_pass_93 : decode cX1_pass 93 = .ok (.iadd, 1) := by decide +kernel
theorem dX1_pass_94 : decode cX1_pass 94 = .ok (.istore 7, 2) := by decide +kernel
theorem dX1_pass_96 : decode cX1_pass 96 = .ok (.iinc 8 1, 3) := by decide +kernel
theorem dX1_pass_99 : decode cX1_pass 99 = .ok (.goto (-35), 3) := by decide +kernel
theorem dX1_pass_102 : decode cX1_pass 102 = .ok (.iconst 0, 1) := by decide +kernel
theorem dX1_pass_103 : decode cX1_pass 103 = .ok (.istore 8, 2) := by decide +kernel
theorem dX1_pass_105 : decode cX1_pass 105 = .ok (.iload 8, 2) := by decide +kernel
theorem dX1_pass_107 : decode cX1_pass 107 = .ok (.iload 5, 2) := by decide +kernel
theorem dX1_pass_109 : decode cX1_pass 109 = .ok (.if_icmp .ge 44, 3) := by decide +kernel
theorem dX1_pass_112 : decode cX1_pass 112 = .ok (.aload_n 3, 1) := by decide +kernel
theorem dX1_pass_113 : decode cX1_pass 113 = .ok (.aload_n 1, 1) := by decide +kernel
theorem dX1_pass_114 : decode cX1_pass 114 = .ok (.iload 8, 2) := by decide +kernel
theorem dX1_pass_116 : decode cX1_pass 116 = .ok (.iaload, 1) := by decide +kernel
theorem dX1_pass_117 : decode cX1_pass 117 = .ok (.iload 4, 2) := by decide +kernel
theorem dX1_pass_119 : decode cX1_pass 119 = .ok (.iadd, 1) := by decide +kernel
theorem dX1_pass_120 : decode cX1_pass 120 = .ok (.iaload, 1) := by decide +kernel
theorem dX1_pass_121 : decode cX1_pass 121 = .ok (.istore 9, 2) := by decide +kernel
theorem dX1_pass_123 : decode cX1_pass 123 = .ok (.aload_n 2, 1) := by decide +kernel
theorem dX1_pass_124 : decode cX1_pass 124 = .ok (.aload_n 0, 1) := by decide +kernel
theorem dX1_pass_125 : decode cX1_pass 125 = .ok (.getfield 9, 3) := by decide +kernel
theorem dX1_pass_128 : decode cX1_pass 128 = .ok (.iload 9, 2) := by decide +kernel
theorem dX1_pass_130 : decode cX1_pass 130 = .ok (.iaload, 1) := by decide +kernel
theorem dX1_pass_131 : decode cX1_pass 131 = .ok (.aload_n 1, 1) := by decide +kernel
theorem dX1_pass_132 : decode cX1_pass 132 = .ok (.iload 8, 2) := by decide +kernel
theorem dX1_pass_134 : decode cX1_pass 134 = .ok (.iaload, 1) := by decide +kernel
theorem dX1_pass_135 : decode cX1_pass 135 = .ok (.iastore, 1) := by decide +kernel
theorem dX1_pass_136 : decode cX1_pass 136 = .ok (.aload_n 0, 1) := by decide +kernel
theorem dX1_pass_137 : decode cX1_pass 137 = .ok (.getfield 9, 3) := by decide +kernel
theorem dX1_pass_140 : decode cX1_pass 140 = .ok (.iload 9, 2) := by decide +kernel
theorem dX1_pass_142 : decode cX1_pass 142 = .ok (.dup2, 1) := by decide +kernel
theorem dX1_pass_143 : decode cX1_pass 143 = .ok (.iaload, 1) := by decide +kernel
theorem dX1_pass_144 : decode cX1_pass 144 = .ok (.iconst 1, 1) := by decide +kernel
theorem dX1_pass_145 : decode cX1_pass 145 = .ok (.iadd, 1) := by decide +kernel
theorem dX1_pass_146 : decode cX1_pass 146 = .ok (.iastore, 1) := by decide +kernel
theorem dX1_pass_147 : decode cX1_pass 147 = .ok (.iinc 8 1, 3) := by decide +kernel
theorem dX1_pass_150 : decode cX1_pass 150 = .ok (.goto (-45), 3) := by decide +kernel
theorem dX1_pass_153 : decode cX1_pass 153 = .ok (.return_, 1) := by decide +kernel
abbrev cX1_named : ByteArray := prog_2_method_4_code
def yX1_named : MethodName := ⟨RX1, "named", "([I[I[III)I"⟩
theorem dX1_named_0 : decode cX1_named 0 = .ok (.iconst 0, 1) := by decide +kernel
theorem dX1_named_1 : decode cX1_named 1 = .ok (.istore 6, 2) := by decide +kernel
theorem dX1_named_3 : decode cX1_named 3 = .ok (.iconst (-1), 1) := by decide +kernel
theorem dX1_named_4 : decode cX1_named 4 = .ok (.istore 7, 2) := by decide +kernel
theorem dX1_named_6 : decode cX1_named 6 = .ok (.iconst (-1), 1) := by decide +kernel
theorem dX1_named_7 : decode cX1_named 7 = .ok (.istore 8, 2) := by decide +kernel
theorem dX1_named_9 : decode cX1_named 9 = .ok (.iconst (-1), 1) := by decide +kernel
theorem dX1_named_10 : decode cX1_named 10 = .ok (.istore 9, 2) := by decide +kernel
theorem dX1_named_12 : decode cX1_named 12 = .ok (.iconst 0, 1) := by decide +kernel
theorem dX1_named_13 : decode cX1_named 13 = .ok (.istore 10, 2) := by decide +kernel
theorem dX1_named_15 : decode cX1_named 15 = .ok (.iload 10, 2) := by decide +kernel
theorem dX1_named_17 : decode cX1_named 17 = .ok (.iload 5, 2) := by decide +kernel
theorem dX1_named_19 : decode cX1_named 19 = .ok (.if_icmp .ge 97, 3) := by decide +kernel
theorem dX1_named_22 : decode cX1_named 22 = .ok (.aload_n 3, 1) := by decide +kernel
theorem dX1_named_23 : decode cX1_named 23 = .ok (.iload 10, 2) := by decide +kernel
theorem dX1_named_25 : decode cX1_named 25 = .ok (.iaload, 1) := by decide +kernel
theorem dX1_named_26 : decode cX1_named 26 = .ok (.istore 11, 2) := by decide +kernel
theorem dX1_named_28 : decode cX1_named 28 = .ok (.aload_n 1, 1) := by decide +kernel
theorem dX1_named_29 : decode cX1_named 29 = .ok (.iload 11, 2) := by decide +kernel
theorem dX1_named_31 : decode cX1_named 31 = .ok (.iaload, 1) := by decide +kernel
theorem dX1_named_32 : decode cX1_named 32 = .ok (.iload 7, 2) := by decide +kernel
theorem dX1_named_34 : decode cX1_named 34 = .ok (.if_icmp .ne 25, 3) := by decide +kernel
theorem dX1_named_37 : decode cX1_named 37 = .ok (.aload_n 1, 1) := by decide +kernel
theorem dX1_named_38 : decode cX1_named 38 = .ok (.iload 11, 2) := by decide +kernel
theorem dX1_named_40 : decode cX1_named 40 = .ok (.iconst 1, 1) := by decide +kernel
theorem dX1_named_41 : decode cX1_named 41 = .ok (.iadd, 1) := by decide +kernel
theorem dX1_named_42 : decode cX1_named 42 = .ok (.iaload, 1) := by decide +kernel
theorem dX1_named_43 : decode cX1_named 43 = .ok (.iload 8, 2) := by decide +kernel
theorem dX1_named_45 : decode cX1_named 45 = .ok (.if_icmp .ne 14, 3) := by decide +kernel
theorem dX1_named_48 : decode cX1_named 48 = .ok (.aload_n 1, 1) := by decide +kernel
theorem dX1_named_49 : decode cX1_named 49 = .ok (.iload 11, 2) := by decide +kernel
theorem dX1_named_51 : decode cX1_named 51 = .ok (.iconst 2, 1) := by decide +kernel
theorem dX1_named_52 : decode cX1_named 52 = .ok (.iadd, 1) := by decide +kernel
theorem dX1_named_53 : decode cX1_named 53 = .ok (.iaload, 1) := by decide +kernel
theorem dX1_named_54 : decode cX1_named 54 = .ok (.iload 9, 2) := by decide +kernel
theorem dX1_named_56 : decode cX1_named 56 = .ok (.if_icmp .eq 28, 3) := by decide +kernel
theorem dX1_named_59 : decode cX1_named 59 = .ok (.iinc 6 1, 3) := by decide +kernel
theorem dX1_named_62 : decode cX1_named 62 = .ok (.aload_n 1, 1) := by decide +kernel
theorem dX1_named_63 : decode cX1_named 63 = .ok (.iload 11, 2) := by decide +kernel
theorem dX1_named_65 : decode cX1_named 65 = .ok (.iaload, 1) := by decide +kernel
theorem dX1_named_66 : decode cX1_named 66 = .ok (.istore 7, 2) := by decide +kernel
theorem dX1_named_68 : decode cX1_named 68 = .ok (.aload_n 1, 1) := by decide +kernel
theorem dX1_named_69 : decode cX1_named 69 = .ok (.iload 11, 2) := by decide +kernel
theorem dX1_named_71 : decode cX1_named 71 = .ok (.iconst 1, 1) := by decide +kernel
theorem dX1_named_72 : decode cX1_named 72 = .ok (.iadd, 1) := by decide +kernel
theorem dX1_named_73 : decode cX1_named 73 = .ok (.iaload, 1) := by decide +kernel
theorem dX1_named_74 : decode cX1_named 74 = .ok (.istore 8, 2) := by decide +kernel
theorem dX1_named_76 : decode cX1_named 76 = .ok (.aload_n 1, 1) := by decide +kernel
theorem dX1_named_77 : decode cX1_named 77 = .ok (.iload 11, 2) := by decide +kernel
theorem dX1_named_79 : decode cX1_named 79 = .ok (.iconst 2, 1) := by decide +kernel
theorem dX1_named_80 : decode cX1_named 80 = .ok (.iadd, 1) := by decide +kernel
theorem dX1_named_81 : decode cX1_named 81 = .ok (.iaload, 1) := by decide +kernel
theorem dX1_named_82 : decode cX1_named 82 = .ok (.istore 9, 2) := by decide +kernel
theorem dX1_named_84 : decode cX1_named 84 = .ok (.aload_n 2, 1) := by decide +kernel
theorem dX1_named_85 : decode cX1_named 85 = .ok (.iload 11, 2) := by decide +kernel
theorem dX1_named_87 : decode cX1_named 87 = .ok (.iconst 3, 1) := by decide +kernel
theorem dX1_named_88 : decode cX1_named 88 = .ok (.irem, 1) := by decide +kernel
theorem dX1_named_89 : decode cX1_named 89 = .ok (.iconst 1, 1) := by decide +kernel
theorem dX1_named_90 : decode cX1_named 90 = .ok (.if_icmp .ne 10, 3) := by decide +kernel
theorem dX1_named_93 : decode cX1_named 93 = .ok (.iload 11, 2) := by decide +kernel
theorem dX1_named_95 : decode cX1_named 95 = .ok (.iconst 3, 1) := by decide +kernel
theorem dX1_named_96 : decode cX1_named 96 = .ok (.idiv, 1) := by decide +kernel
theorem dX1_named_97 : decode cX1_named 97 = .ok (.goto 10, 3) := by decide +kernel
theorem dX1_named_100 : decode cX1_named 100 = .ok (.iload 11, 2) := by decide +kernel
theorem dX1_named_102 : decode cX1_named 102 = .ok (.iconst 3, 1) := by decide +kernel
theorem dX1_named_103 : decode cX1_named 103 = .ok (.idiv, 1) := by decide +kernel
theorem dX1_named_104 : decode cX1_named 104 = .ok (.iload 4, 2) := by decide +kernel
theorem dX1_named_106 : decode cX1_named 106 = .ok (.iadd, 1) := by decide +kernel
theorem dX1_named_107 : decode cX1_named 107 = .ok (.iload 6, 2) := by decide +kernel
theorem dX1_named_109 : decode cX1_named 109 = .ok (.iastore, 1) := by decide +kernel
theorem dX1_named_110 : decode cX1_named 110 = .ok (.iinc 10 1, 3) := by decide +kernel
theorem dX1_named_113 : decode cX1_named 113 = .ok (.goto (-98), 3) := by decide +kernel
theorem dX1_named_116 : decode cX1_named 116 = .ok (.iload 6, 2) := by decide +kernel
theorem dX1_named_118 : decode cX1_named 118 = .ok (.ireturn, 1) := by decide +kernel
abbrev cX1_merge : ByteArray := prog_2_method_6_code
def yX1_merge : MethodName := ⟨RX1, "merge", "([I[II[I[I[I)V"⟩
theorem dX1_merge_0 : decode cX1_merge 0 = .ok (.iload_n 3, 1) := by decide +kernel
theorem dX1_merge_1 : decode cX1_merge 1 = .ok (.iconst 2, 1) := by decide +kernel
theorem dX1_merge_2 : decode cX1_merge 2 = .ok (.iadd, 1) := by decide +kernel
theorem dX1_merge_3 : decode cX1_merge 3 = .ok (.iconst 3, 1) := by decide +kernel
theorem dX1_merge_4 : decode cX1_merge 4 = .ok (.idiv, 1) := by decide +kernel
theorem dX1_merge_5 : decode cX1_merge 5 = .ok (.istore 7, 2) := by decide +kernel
theorem dX1_merge_7 : decode cX1_merge 7 = .ok (.iload_n 3, 1) := by decide +kernel
theorem dX1_merge_8 : decode cX1_merge 8 = .ok (.iconst 1, 1) := by decide +kernel
theorem dX1_merge_9 : decode cX1_merge 9 = .ok (.iadd, 1) := by decide +kernel
theorem dX1_merge_10 : decode cX1_merge 10 = .ok (.iconst 3, 1) := by decide +kernel
theorem dX1_merge_11 : decode cX1_merge 11 = .ok (.idiv, 1) := by decide +kernel
theorem dX1_merge_12 : decode cX1_merge 12 = .ok (.istore 8, 2) := by decide +kernel
theorem dX1_merge_14 : decode cX1_merge 14 = .ok (.iload 7, 2) := by decide +kernel
theorem dX1_merge_16 : decode cX1_merge 16 = .ok (.iload_n 3, 1) := by decide +kernel
theorem dX1_merge_17 : decode cX1_merge 17 = .ok (.iconst 3, 1) := by decide +kernel
theorem dX1_merge_18 : decode cX1_merge 18 = .ok (.idiv, 1) := by decide +kernel
theorem dX1_merge_19 : decode cX1_merge 19 = .ok (.iadd, 1) := by decide +kernel
theorem dX1_merge_20 : decode cX1_merge 20 = .ok (.istore 9, 2) := by decide +kernel
theorem dX1_merge_22 : decode cX1_merge 22 = .ok (.iconst 0, 1) := by decide +kernel
theorem dX1_merge_23 : decode cX1_merge 23 = .ok (.istore 10, 2) := by decide +kernel
theorem dX1_merge_25 : decode cX1_merge 25 = .ok (.iload 7, 2) := by decide +kernel
theorem dX1_merge_27 : decode cX1_merge 27 = .ok (.iload 8, 2) := by decide +kernel
theorem dX1_merge_29 : decode cX1_merge 29 = .ok (.isub, 1) := by decide +kernel
theorem dX1_merge_30 : decode cX1_merge 30 = .ok (.istore 11, 2) := by decide +kernel
theorem dX1_merge_32 : decode cX1_merge 32 = .ok (.iconst 0, 1) := by decide +kernel
theorem dX1_merge_33 : decode cX1_merge 33 = .ok (.istore 12, 2) := by decide +kernel
theorem dX1_merge_35 : decode cX1_merge 35 = .ok (.iload 12, 2) := by decide +kernel
theorem dX1_merge_37 : decode cX1_merge 37 = .ok (.iload_n 3, 1) := by decide +kernel
theorem dX1_merge_38 : decode cX1_merge 38 = .ok (.if_icmp .ge 116, 3) := by decide +kernel
theorem dX1_merge_41 : decode cX1_merge 41 = .ok (.iload 11, 2) := by decide +kernel
theorem dX1_merge_43 : decode cX1_merge 43 = .ok (.iload 9, 2) := by decide +kernel
theorem dX1_merge_45 : decode cX1_merge 45 = .ok (.if_icmp .ne 9, 3) := by decide +kernel
theorem dX1_merge_48 : decode cX1_merge 48 = .ok (.iconst 0, 1) := by decide +kernel
theorem dX1_merge_49 : decode cX1_merge 49 = .ok (.istore 13, 2) := by decide +kernel
theorem dX1_merge_51 : decode cX1_merge 51 = .ok (.goto 36, 3) := by decide +kernel
theorem dX1_merge_54 : decode cX1_merge 54 = .ok (.iload 10, 2) := by decide +kernel
theorem dX1_merge_56 : decode cX1_merge 56 = .ok (.iload 7, 2) := by decide +kernel
theorem dX1_merge_58 : decode cX1_merge 58 = .ok (.if_icmp .ne 9, 3) := by decide +kernel
theorem dX1_merge_61 : decode cX1_merge 61 = .ok (.iconst 1, 1) := by decide +kernel
theorem dX1_merge_62 : decode cX1_merge 62 = .ok (.istore 13, 2) := by decide +kernel
theorem dX1_merge_64 : decode cX1_merge 64 = .ok (.goto 23, 3) := by decide +kernel
theorem dX1_merge_67 : decode cX1_merge 67 = .ok (.aload_n 1, 1) := by decide +kernel
theorem dX1_merge_68 : decode cX1_merge 68 = .ok (.aload 4, 2) := by decide +kernel
theorem dX1_merge_70 : decode cX1_merge 70 = .ok (.aload 5, 2) := by decide +kernel
theorem dX1_merge_72 : decode cX1_merge 72 = .ok (.iload 11, 2) := by decide +kernel
theorem dX1_merge_74 : decode cX1_merge 74 = .ok (.iaload, 1) := by decide +kernel
theorem dX1_merge_75 : decode cX1_merge 75 = .ok (.aload 6, 2) := by decide +kernel
theorem dX1_merge_77 : decode cX1_merge 77 = .ok (.iload 10, 2) := by decide +kernel
theorem dX1_merge_79 : decode cX1_merge 79 = .ok (.iaload, 1) := by decide +kernel
theorem dX1_merge_80 : decode cX1_merge 80 = .ok (.iload 7, 2) := by decide +kernel
theorem dX1_merge_82 : decode cX1_merge 82 = .ok (.invokestatic 31, 3) := by decide +kernel
theorem dX1_merge_85 : decode cX1_merge 85 = .ok (.istore 13, 2) := by decide +kernel
theorem dX1_merge_87 : decode cX1_merge 87 = .ok (.iload 13, 2) := by decide +kernel
theorem dX1_merge_89 : decode cX1_merge 89 = .ok (.ifCond .eq 47, 3) := by decide +kernel
theorem dX1_merge_92 : decode cX1_merge 92 = .ok (.aload_n 2, 1) := by decide +kernel
theorem dX1_merge_93 : decode cX1_merge 93 = .ok (.iload 12, 2) := by decide +kernel
theorem dX1_merge_95 : decode cX1_merge 95 = .ok (.aload 5, 2) := by decide +kernel
theorem dX1_merge_97 : decode cX1_merge 97 = .ok (.iload 11, 2) := by decide +kernel
theorem dX1_merge_99 : decode cX1_merge 99 = .ok (.iaload, 1) := by decide +kernel
theorem dX1_merge_100 : decode cX1_merge 100 = .ok (.iload 7, 2) := by decide +kernel
theorem dX1_merge_102 : decode cX1_merge 102 = .ok (.if_icmp .ge 15, 3) := by decide +kernel
theorem dX1_merge_105 : decode cX1_merge 105 = .ok (.aload 5, 2) := by decide +kernel
theorem dX1_merge_107 : decode cX1_merge 107 = .ok (.iload 11, 2) := by decide +kernel
theorem dX1_merge_109 : decode cX1_merge 109 = .ok (.iaload, 1) := by decide +kernel
theorem dX1_merge_110 : decode cX1_merge 110 = .ok (.iconst 3, 1) := by decide +kernel
theorem dX1_merge_111 : decode cX1_merge 111 = .ok (.imul, 1) := by decide +kernel
theorem dX1_merge_112 : decode cX1_merge 112 = .ok (.iconst 1, 1) := by decide +kernel
theorem dX1_merge_113 : decode cX1_merge 113 = .ok (.iadd, 1) := by decide +kernel
theorem dX1_merge_114 : decode cX1_merge 114 = .ok (.goto 15, 3) := by decide +kernel
theorem dX1_merge_117 : decode cX1_merge 117 = .ok (.aload 5, 2) := by decide +kernel
theorem dX1_merge_119 : decode cX1_merge 119 = .ok (.iload 11, 2) := by decide +kernel
theorem dX1_merge_121 : decode cX1_merge 121 = .ok (.iaload, 1) := by decide +kernel
theorem dX1_merge_122 : decode cX1_merge 122 = .ok (.iload 7, 2) := by decide +kernel
theorem dX1_merge_124 : decode cX1_merge 124 = .ok (.isub, 1) := by decide +kernel
theorem dX1_merge_125 : decode cX1_merge 125 = .ok (.iconst 3, 1) := by decide +kernel
theorem dX1_merge_126 : decode cX1_merge 126 = .ok (.imul, 1) := by decide +kernel
theorem dX1_merge_127 : decode cX1_merge 127 = .ok (.iconst 2, 1) := by decide +kernel
theorem dX1_merge_128 : decode cX1_merge 128 = .ok (.iadd, 1) := by decide +kernel
theorem dX1_merge_129 : decode cX1_merge 129 = .ok (.iastore, 1) := by decide +kernel
theorem dX1_merge_130 : decode cX1_merge 130 = .ok (.iinc 11 1, 3) := by decide +kernel
theorem dX1_merge_133 : decode cX1_merge 133 = .ok (.goto 15, 3) := by decide +kernel
theorem dX1_merge_136 : decode cX1_merge 136 = .ok (.aload_n 2, 1) := by decide +kernel
theorem dX1_merge_137 : decode cX1_merge 137 = .ok (.iload 12, 2) := by decide +kernel
theorem dX1_merge_139 : decode cX1_merge 139 = .ok (.aload 6, 2) := by decide +kernel
theorem dX1_merge_141 : decode cX1_merge 141 = .ok (.iload 10, 2) := by decide +kernel
theorem dX1_merge_143 : decode cX1_merge 143 = .ok (.iaload, 1) := by decide +kernel
theorem dX1_merge_144 : decode cX1_merge 144 = .ok (.iastore, 1) := by decide +kernel
theorem dX1_merge_145 : decode cX1_merge 145 = .ok (.iinc 10 1, 3) := by decide +kernel
theorem dX1_merge_148 : decode cX1_merge 148 = .ok (.iinc 12 1, 3) := by decide +kernel
theorem dX1_merge_151 : decode cX1_merge 151 = .ok (.goto (-116), 3) := by decide +kernel
theorem dX1_merge_154 : decode cX1_merge 154 = .ok (.return_, 1) := by decide +kernel
abbrev cX1_isFirst : ByteArray := prog_2_method_7_code
def yX1_isFirst : MethodName := ⟨RX1, "isFirst", "([I[IIII)Z"⟩
theorem dX1_isFirst_0 : decode cX1_isFirst 0 = .ok (.iload_n 2, 1) := by decide +kernel
theorem dX1_isFirst_1 : decode cX1_isFirst 1 = .ok (.iload 4, 2) := by decide +kernel
theorem dX1_isFirst_3 : decode cX1_isFirst 3 = .ok (.if_icmp .ge 28, 3) := by decide +kernel
theorem dX1_isFirst_6 : decode cX1_isFirst 6 = .ok (.aload_n 0, 1) := by decide +kernel
theorem dX1_isFirst_7 : decode cX1_isFirst 7 = .ok (.iload_n 2, 1) := by decide +kernel
theorem dX1_isFirst_8 : decode cX1_isFirst 8 = .ok (.iconst 3, 1) := by decide +kernel
theorem dX1_isFirst_9 : decode cX1_isFirst 9 = .ok (.imul, 1) := by decide +kernel
theorem dX1_isFirst_10 : decode cX1_isFirst 10 = .ok (.iconst 1, 1) := by decide +kernel
theorem dX1_isFirst_11 : decode cX1_isFirst 11 = .ok (.iadd, 1) := by decide +kernel
theorem dX1_isFirst_12 : decode cX1_isFirst 12 = .ok (.iaload, 1) := by decide +kernel
theorem dX1_isFirst_13 : decode cX1_isFirst 13 = .ok (.aload_n 1, 1) := by decide +kernel
theorem dX1_isFirst_14 : decode cX1_isFirst 14 = .ok (.iload_n 2, 1) := by decide +kernel
theorem dX1_isFirst_15 : decode cX1_isFirst 15 = .ok (.iload 4, 2) := by decide +kernel
theorem dX1_isFirst_17 : decode cX1_isFirst 17 = .ok (.iadd, 1) := by decide +kernel
theorem dX1_isFirst_18 : decode cX1_isFirst 18 = .ok (.iaload, 1) := by decide +kernel
theorem dX1_isFirst_19 : decode cX1_isFirst 19 = .ok (.aload_n 0, 1) := by decide +kernel
theorem dX1_isFirst_20 : decode cX1_isFirst 20 = .ok (.iload_n 3, 1) := by decide +kernel
theorem dX1_isFirst_21 : decode cX1_isFirst 21 = .ok (.iaload, 1) := by decide +kernel
theorem dX1_isFirst_22 : decode cX1_isFirst 22 = .ok (.aload_n 1, 1) := by decide +kernel
theorem dX1_isFirst_23 : decode cX1_isFirst 23 = .ok (.iload_n 3, 1) := by decide +kernel
theorem dX1_isFirst_24 : decode cX1_isFirst 24 = .ok (.iconst 3, 1) := by decide +kernel
theorem dX1_isFirst_25 : decode cX1_isFirst 25 = .ok (.idiv, 1) := by decide +kernel
theorem dX1_isFirst_26 : decode cX1_isFirst 26 = .ok (.iaload, 1) := by decide +kernel
theorem dX1_isFirst_27 : decode cX1_isFirst 27 = .ok (.invokestatic 35, 3) := by decide +kernel
theorem dX1_isFirst_30 : decode cX1_isFirst 30 = .ok (.ireturn, 1) := by decide +kernel
theorem dX1_isFirst_31 : decode cX1_isFirst 31 = .ok (.iload_n 2, 1) := by decide +kernel
theorem dX1_isFirst_32 : decode cX1_isFirst 32 = .ok (.iload 4, 2) := by decide +kernel
theorem dX1_isFirst_34 : decode cX1_isFirst 34 = .ok (.isub, 1) := by decide +kernel
theorem dX1_isFirst_35 : decode cX1_isFirst 35 = .ok (.iconst 3, 1) := by decide +kernel
theorem dX1_isFirst_36 : decode cX1_isFirst 36 = .ok (.imul, 1) := by decide +kernel
theorem dX1_isFirst_37 : decode cX1_isFirst 37 = .ok (.iconst 2, 1) := by decide +kernel
theorem dX1_isFirst_38 : decode cX1_isFirst 38 = .ok (.iadd, 1) := by decide +kernel
theorem dX1_isFirst_39 : decode cX1_isFirst 39 = .ok (.istore 5, 2) := by decide +kernel
theorem dX1_isFirst_41 : decode cX1_isFirst 41 = .ok (.aload_n 0, 1) := by decide +kernel
theorem dX1_isFirst_42 : decode cX1_isFirst 42 = .ok (.iload 5, 2) := by decide +kernel
theorem dX1_isFirst_44 : decode cX1_isFirst 44 = .ok (.iaload, 1) := by decide +kernel
theorem dX1_isFirst_45 : decode cX1_isFirst 45 = .ok (.aload_n 0, 1) := by decide +kernel
theorem dX1_isFirst_46 : decode cX1_isFirst 46 = .ok (.iload_n 3, 1) := by decide +kernel
theorem dX1_isFirst_47 : decode cX1_isFirst 47 = .ok (.iaload, 1) := by decide +kernel
theorem dX1_isFirst_48 : decode cX1_isFirst 48 = .ok (.if_icmp .eq 19, 3) := by decide +kernel
theorem dX1_isFirst_51 : decode cX1_isFirst 51 = .ok (.aload_n 0, 1) := by decide +kernel
theorem dX1_isFirst_52 : decode cX1_isFirst 52 = .ok (.iload 5, 2) := by decide +kernel
theorem dX1_isFirst_54 : decode cX1_isFirst 54 = .ok (.iaload, 1) := by decide +kernel
theorem dX1_isFirst_55 : decode cX1_isFirst 55 = .ok (.aload_n 0, 1) := by decide +kernel
theorem dX1_isFirst_56 : decode cX1_isFirst 56 = .ok (.iload_n 3, 1) := by decide +kernel
theorem dX1_isFirst_57 : decode cX1_isFirst 57 = .ok (.iaload, 1) := by decide +kernel
theorem dX1_isFirst_58 : decode cX1_isFirst 58 = .ok (.if_icmp .ge 7, 3) := by decide +kernel
theorem dX1_isFirst_61 : decode cX1_isFirst 61 = .ok (.iconst 1, 1) := by decide +kernel
theorem dX1_isFirst_62 : decode cX1_isFirst 62 = .ok (.goto 4, 3) := by decide +kernel
theorem dX1_isFirst_65 : decode cX1_isFirst 65 = .ok (.iconst 0, 1) := by decide +kernel
theorem dX1_isFirst_66 : decode cX1_isFirst 66 = .ok (.ireturn, 1) := by decide +kernel
theorem dX1_isFirst_67 : decode cX1_isFirst 67 = .ok (.aload_n 0, 1) := by decide +kernel
theorem dX1_isFirst_68 : decode cX1_isFirst 68 = .ok (.iload 5, 2) := by decide +kernel
theorem dX1_isFirst_70 : decode cX1_isFirst 70 = .ok (.iconst 1, 1) := by decide +kernel
theorem dX1_isFirst_71 : decode cX1_isFirst 71 = .ok (.iadd, 1) := by decide +kernel
theorem dX1_isFirst_72 : decode cX1_isFirst 72 = .ok (.iaload, 1) := by decide +kernel
theorem dX1_isFirst_73 : decode cX1_isFirst 73 = .ok (.aload_n 1, 1) := by decide +kernel
theorem dX1_isFirst_74 : decode cX1_isFirst 74 = .ok (.iload_n 2, 1) := by decide +kernel
theorem dX1_isFirst_75 : decode cX1_isFirst 75 = .ok (.iload 4, 2) := by decide +kernel
theorem dX1_isFirst_77 : decode cX1_isFirst 77 = .ok (.isub, 1) := by decide +kernel
theorem dX1_isFirst_78 : decode cX1_isFirst 78 = .ok (.iconst 1, 1) := by decide +kernel
theorem dX1_isFirst_79 : decode cX1_isFirst 79 = .ok (.iadd, 1) := by decide +kernel
theorem dX1_isFirst_80 : decode cX1_isFirst 80 = .ok (.iaload, 1) := by decide +kernel
theorem dX1_isFirst_81 : decode cX1_isFirst 81 = .ok (.aload_n 0, 1) := by decide +kernel
theorem dX1_isFirst_82 : decode cX1_isFirst 82 = .ok (.iload_n 3, 1) := by decide +kernel
theorem dX1_isFirst_83 : decode cX1_isFirst 83 = .ok (.iconst 1, 1) := by decide +kernel
theorem dX1_isFirst_84 : decode cX1_isFirst 84 = .ok (.iadd, 1) := by decide +kernel
theorem dX1_isFirst_85 : decode cX1_isFirst 85 = .ok (.iaload, 1) := by decide +kernel
theorem dX1_isFirst_86 : decode cX1_isFirst 86 = .ok (.aload_n 1, 1) := by decide +kernel
theorem dX1_isFirst_87 : decode cX1_isFirst 87 = .ok (.iload_n 3, 1) := by decide +kernel
theorem dX1_isFirst_88 : decode cX1_isFirst 88 = .ok (.iconst 3, 1) := by decide +kernel
theorem dX1_isFirst_89 : decode cX1_isFirst 89 = .ok (.idiv, 1) := by decide +kernel
theorem dX1_isFirst_90 : decode cX1_isFirst 90 = .ok (.iload 4, 2) := by decide +kernel
theorem dX1_isFirst_92 : decode cX1_isFirst 92 = .ok (.iadd, 1) := by decide +kernel
theorem dX1_isFirst_93 : decode cX1_isFirst 93 = .ok (.iaload, 1) := by decide +kernel
theorem dX1_isFirst_94 : decode cX1_isFirst 94 = .ok (.invokestatic 35, 3) := by decide +kernel
theorem dX1_isFirst_97 : decode cX1_isFirst 97 = .ok (.ireturn, 1) := by decide +kernel
abbrev cX1_notAfter : ByteArray := prog_2_method_5_code
def yX1_notAfter : MethodName := ⟨RX1, "notAfter", "(IIII)Z"⟩
theorem dX1_notAfter_0 : decode cX1_notAfter 0 = .ok (.iload_n 0, 1) := by decide +kernel
theorem dX1_notAfter_1 : decode cX1_notAfter 1 = .ok (.iload_n 2, 1) := by decide +kernel
theorem dX1_notAfter_2 : decode cX1_notAfter 2 = .ok (.if_icmp .lt 13, 3) := by decide +kernel
theorem dX1_notAfter_5 : decode cX1_notAfter 5 = .ok (.iload_n 0, 1) := by decide +kernel
theorem dX1_notAfter_6 : decode cX1_notAfter 6 = .ok (.iload_n 2, 1) := by decide +kernel
theorem dX1_notAfter_7 : decode cX1_notAfter 7 = .ok (.if_icmp .ne 12, 3) := by decide +kernel
theorem dX1_notAfter_10 : decode cX1_notAfter 10 = .ok (.iload_n 1, 1) := by decide +kernel
theorem dX1_notAfter_11 : decode cX1_notAfter 11 = .ok (.iload_n 3, 1) := by decide +kernel
theorem dX1_notAfter_12 : decode cX1_notAfter 12 = .ok (.if_icmp .gt 7, 3) := by decide +kernel
theorem dX1_notAfter_15 : decode cX1_notAfter 15 = .ok (.iconst 1, 1) := by decide +kernel
theorem dX1_notAfter_16 : decode cX1_notAfter 16 = .ok (.goto 4, 3) := by decide +kernel
theorem dX1_notAfter_19 : decode cX1_notAfter 19 = .ok (.iconst 0, 1) := by decide +kernel
theorem dX1_notAfter_20 : decode cX1_notAfter 20 = .ok (.ireturn, 1) := by decide +kernel
theorem q10 : (Jvm.Cond.initialized "RotationSort$Suffixes") ∈ lw_all := lw_g (lw_at lw_m0 2 rfl) rfl
theorem q22 : (Jvm.Cond.instantiable "RotationSort$Suffixes" (1 : Nat)) ∈ lw_all := lw_g (lw_at lw_m0 14 rfl) rfl
theorem q24 : (Jvm.Cond.instanceMethod ({ cls := "RotationSort$Suffixes", name := "<init>", desc := "()V" } : Jvm.MethodName)) ∈ lw_all := lw_g (lw_at lw_m0 16 rfl) rfl
theorem q25 : (Jvm.Cond.code ({ cls := "RotationSort$Suffixes", name := "<init>", desc := "()V" } : Jvm.MethodName) prog_2_method_1_code (1 : Nat) (Option.none : Option Jvm.ClassFile.FieldType)) ∈ lw_all := lw_g (lw_at lw_m0 17 rfl) rfl
theorem q26 : (Jvm.Cond.methodLink "RotationSort$Suffixes" (3 : Nat) ({ cls := "java/lang/Object", name := "<init>", desc := "()V" } : Jvm.MethodName)) ∈ lw_all := lw_g (lw_at lw_m0 18 rfl) rfl
theorem q27 : (Jvm.Cond.fieldLink "RotationSort$Suffixes" (9 : Nat) "RotationSort$Suffixes" "count" "[I") ∈ lw_all := lw_g (lw_at lw_m0 19 rfl) rfl
theorem q28 : (Jvm.Cond.laysFinal "RotationSort$Suffixes" "RotationSort$Suffixes" "count" "[I") ∈ lw_all := lw_g (lw_at lw_m0 20 rfl) rfl
theorem q29 : (Jvm.Cond.soleField "RotationSort$Suffixes" "count") ∈ lw_all := lw_g (lw_at lw_m0 21 rfl) rfl
theorem q30 : (Jvm.Cond.superclass "RotationSort$Suffixes" "java/lang/Object") ∈ lw_all := lw_g (lw_at lw_m0 22 rfl) rfl
theorem q95 : (Jvm.Cond.instanceMethod ({ cls := "RotationSort$Suffixes", name := "sort", desc := "([I[III)V" } : Jvm.MethodName)) ∈ lw_all := lw_g (lw_at lw_m0 87 rfl) rfl
theorem q96 : (Jvm.Cond.selects "RotationSort$Suffixes" ({ cls := "RotationSort$Suffixes", name := "sort", desc := "([I[III)V" } : Jvm.MethodName) ({ cls := "RotationSort$Suffixes", name := "sort", desc := "([I[III)V" } : Jvm.MethodName)) ∈ lw_all := lw_g (lw_at lw_m0 88 rfl) rfl
theorem q97 : (Jvm.Cond.code ({ cls := "RotationSort$Suffixes", name := "sort", desc := "([I[III)V" } : Jvm.MethodName) prog_2_method_3_code (16 : Nat) (Option.none : Option Jvm.ClassFile.FieldType)) ∈ lw_all := lw_g (lw_at lw_m0 89 rfl) rfl
theorem q98 : (Jvm.Cond.methodLink "RotationSort$Suffixes" (15 : Nat) ({ cls := "RotationSort$Suffixes", name := "pass", desc := "([I[I[IIII)V" } : Jvm.MethodName)) ∈ lw_all := lw_g (lw_at lw_m0 90 rfl) rfl
theorem q99 : (Jvm.Cond.privateMethod ({ cls := "RotationSort$Suffixes", name := "pass", desc := "([I[I[IIII)V" } : Jvm.MethodName)) ∈ lw_tbl := lw_at lw_m0 91 rfl
theorem q100 : (Jvm.Cond.instanceMethod ({ cls := "RotationSort$Suffixes", name := "pass", desc := "([I[I[IIII)V" } : Jvm.MethodName)) ∈ lw_all := lw_g (lw_at lw_m0 92 rfl) rfl
theorem q101 : (Jvm.Cond.code ({ cls := "RotationSort$Suffixes", name := "pass", desc := "([I[I[IIII)V" } : Jvm.MethodName) prog_2_method_2_code (10 : Nat) (Option.none : Option Jvm.ClassFile.FieldType)) ∈ lw_all := lw_g (lw_at lw_m0 93 rfl) rfl
theorem q102 : (Jvm.Cond.methodLink "RotationSort$Suffixes" (19 : Nat) ({ cls := "RotationSort$Suffixes", name := "named", desc := "([I[I[III)I" } : Jvm.MethodName)) ∈ lw_all := lw_g (lw_at lw_m0 94 rfl) rfl
theorem q103 : (Jvm.Cond.privateMethod ({ cls := "RotationSort$Suffixes", name := "named", desc := "([I[I[III)I" } : Jvm.MethodName)) ∈ lw_tbl := lw_at lw_m0 95 rfl
theorem q104 : (Jvm.Cond.instanceMethod ({ cls := "RotationSort$Suffixes", name := "named", desc := "([I[I[III)I" } : Jvm.MethodName)) ∈ lw_all := lw_g (lw_at lw_m0 96 rfl) rfl
theorem q105 : (Jvm.Cond.code ({ cls := "RotationSort$Suffixes", name := "named", desc := "([I[I[III)I" } : Jvm.MethodName) prog_2_method_4_code (12 : Nat) (Option.some Jvm.ClassFile.FieldType.int)) ∈ lw_all := lw_g (lw_at lw_m0 97 rfl) rfl
theorem q106 : (Jvm.Cond.methodLink "RotationSort$Suffixes" (23 : Nat) ({ cls := "RotationSort$Suffixes", name := "sort", desc := "([I[III)V" } : Jvm.MethodName)) ∈ lw_all := lw_g (lw_at lw_m0 98 rfl) rfl
theorem q107 : (Jvm.Cond.methodLink "RotationSort$Suffixes" (27 : Nat) ({ cls := "RotationSort$Suffixes", name := "merge", desc := "([I[II[I[I[I)V" } : Jvm.MethodName)) ∈ lw_all := lw_g (lw_at lw_m0 99 rfl) rfl
theorem q108 : (Jvm.Cond.privateMethod ({ cls := "RotationSort$Suffixes", name := "merge", desc := "([I[II[I[I[I)V" } : Jvm.MethodName)) ∈ lw_tbl := lw_at lw_m0 100 rfl
theorem q109 : (Jvm.Cond.instanceMethod ({ cls := "RotationSort$Suffixes", name := "merge", desc := "([I[II[I[I[I)V" } : Jvm.MethodName)) ∈ lw_all := lw_g (lw_at lw_m0 101 rfl) rfl
theorem q110 : (Jvm.Cond.code ({ cls := "RotationSort$Suffixes", name := "merge", desc := "([I[II[I[I[I)V" } : Jvm.MethodName) prog_2_method_6_code (14 : Nat) (Option.none : Option Jvm.ClassFile.FieldType)) ∈ lw_all := lw_g (lw_at lw_m0 102 rfl) rfl
theorem q111 : (Jvm.Cond.methodLink "RotationSort$Suffixes" (31 : Nat) ({ cls := "RotationSort$Suffixes", name := "isFirst", desc := "([I[IIII)Z" } : Jvm.MethodName)) ∈ lw_all := lw_g (lw_at lw_m0 103 rfl) rfl
theorem q112 : (Jvm.Cond.static ({ cls := "RotationSort$Suffixes", name := "isFirst", desc := "([I[IIII)Z" } : Jvm.MethodName)) ∈ lw_all := lw_g (lw_at lw_m0 104 rfl) rfl
theorem q113 : (Jvm.Cond.code ({ cls := "RotationSort$Suffixes", name := "isFirst", desc := "([I[IIII)Z" } : Jvm.MethodName) prog_2_method_7_code (6 : Nat) (Option.some Jvm.ClassFile.FieldType.boolean)) ∈ lw_all := lw_g (lw_at lw_m0 105 rfl) rfl
theorem q114 : (Jvm.Cond.methodLink "RotationSort$Suffixes" (35 : Nat) ({ cls := "RotationSort$Suffixes", name := "notAfter", desc := "(IIII)Z" } : Jvm.MethodName)) ∈ lw_all := lw_g (lw_at lw_m0 106 rfl) rfl
theorem q115 : (Jvm.Cond.static ({ cls := "RotationSort$Suffixes", name := "notAfter", desc := "(IIII)Z" } : Jvm.MethodName)) ∈ lw_all := lw_g (lw_at lw_m0 107 rfl) rfl
theorem q116 : (Jvm.Cond.code ({ cls := "RotationSort$Suffixes", name := "notAfter", desc := "(IIII)Z" } : Jvm.MethodName) prog_2_method_5_code (4 : Nat) (Option.some Jvm.ClassFile.FieldType.boolean)) ∈ lw_all := lw_g (lw_at lw_m0 108 rfl) rfl
theorem in_X1 : ∀ w ∈ wsX10, w ∈ lw_all := lw_in wsX10 [28] (by decide +kernel) (by decide +kernel)
end
section
/-! RotationSortModel -/
set_option maxRecDepth 100000
def RX2 : String := "RotationSortModel"
def TX2 : u_T := fun k => match k with
  | 0 => ("RotationSortModel", "block", "[I", true)
  | 1 => ("RotationSortModel", "start", "[I", true)
  | 2 => ("RotationSortModel", "column", "[I", true)
  | 3 => ("RotationSortModel", "kept", "[I", true)
  | 4 => ("RotationSortModel", "size", "I", false)
  | _ => ("RotationSortModel", "made", "I", false)
def tyX2 : Nat → FieldType := fun k => match k with
  | 0 => .array .int
  | 1 => .array .int
  | 2 => .array .int
  | 3 => .array .int
  | 4 => .int
  | _ => .int
abbrev wsX20 : List Cond := u_ws RX2 TX2 6
theorem nmX2 : ∀ a, a < 6 → ∀ b, b < 6 → a ≠ b → (TX2 a).2.1 ≠ (TX2 b).2.1 := by decide +kernel
theorem tyX2_ok : ∀ k, k < 6 → parseFieldDescriptor (TX2 k).2.2.1 = some (tyX2 k) := by decide +kernel
abbrev cX2_init : ByteArray := prog_4_method_1_code
def yX2_init : MethodName := ⟨RX2, "<init>", "()V"⟩
theorem dX2_init_0 : decode cX2_init 0 = .ok (.aload_n 0, 1) := by decide +kernel
theorem dX2_init_1 : decode cX2_init 1 = .ok (.invokespecial 1, 3) := by decide +kernel
theorem dX2_init_4 : decode cX2_init 4 = .ok (.aload_n 0, 1) := by decide +kernel
theorem dX2_init_5 : decode cX2_init 5 = .ok (.sipush 256, 3) := by decide +kernel
theorem dX2_init_8 : decode cX2_init 8 = .ok (.newarray .int, 2) := by decide +kernel
theorem dX2_init_10 : decode cX2_init 10 = .ok (.putfield 7, 3) := by decide +kernel
theorem dX2_init_13 : decode cX2_init 13 = .ok (.aload_n 0, 1) := by decide +kernel
theorem dX2_init_14 : decode cX2_init 14 = .ok (.sipush 256, 3) := by decide +kernel
theorem dX2_init_17 : decode cX2_init 17 = .ok (.newarray .int, 2) := by decide +kernel
theorem dX2_init_19 : decode cX2_init 19 = .ok (.putfield 13, 3) := by decide +kernel
theorem dX2_init_22 : decode cX2_init 22 = .ok (.aload_n 0, 1) := by decide +kernel
theorem dX2_init_23 : decode cX2_init 23 = .ok (.sipush 256, 3) := by decide +kernel
theorem dX2_init_26 : decode cX2_init 26 = .ok (.newarray .int, 2) := by decide +kernel
theorem dX2_init_28 : decode cX2_init 28 = .ok (.putfield 16, 3) := by decide +kernel
theorem dX2_init_31 : decode cX2_init 31 = .ok (.aload_n 0, 1) := by decide +kernel
theorem dX2_init_32 : decode cX2_init 32 = .ok (.sipush 256, 3) := by decide +kernel
theorem dX2_init_35 : decode cX2_init 35 = .ok (.newarray .int, 2) := by decide +kernel
theorem dX2_init_37 : decode cX2_init 37 = .ok (.putfield 19, 3) := by decide +kernel
theorem dX2_init_40 : decode cX2_init 40 = .ok (.return_, 1) := by decide +kernel
abbrev cX2_put : ByteArray := prog_4_method_2_code
def yX2_put : MethodName := ⟨RX2, "put", "(IIII)I"⟩
theorem dX2_put_0 : decode cX2_put 0 = .ok (.aload_n 0, 1) := by decide +kernel
theorem dX2_put_1 : decode cX2_put 1 = .ok (.getfield 22, 3) := by decide +kernel
theorem dX2_put_4 : decode cX2_put 4 = .ok (.iconst 4, 1) := by decide +kernel
theorem dX2_put_5 : decode cX2_put 5 = .ok (.iadd, 1) := by decide +kernel
theorem dX2_put_6 : decode cX2_put 6 = .ok (.sipush 256, 3) := by decide +kernel
theorem dX2_put_9 : decode cX2_put 9 = .ok (.if_icmp .le 5, 3) := by decide +kernel
theorem dX2_put_12 : decode cX2_put 12 = .ok (.iconst (-1), 1) := by decide +kernel
theorem dX2_put_13 : decode cX2_put 13 = .ok (.ireturn, 1) := by decide +kernel
theorem dX2_put_14 : decode cX2_put 14 = .ok (.aload_n 0, 1) := by decide +kernel
theorem dX2_put_15 : decode cX2_put 15 = .ok (.getfield 7, 3) := by decide +kernel
theorem dX2_put_18 : decode cX2_put 18 = .ok (.aload_n 0, 1) := by decide +kernel
theorem dX2_put_19 : decode cX2_put 19 = .ok (.getfield 22, 3) := by decide +kernel
theorem dX2_put_22 : decode cX2_put 22 = .ok (.iload_n 1, 1) := by decide +kernel
theorem dX2_put_23 : decode cX2_put 23 = .ok (.sipush 255, 3) := by decide +kernel
theorem dX2_put_26 : decode cX2_put 26 = .ok (.iand, 1) := by decide +kernel
theorem dX2_put_27 : decode cX2_put 27 = .ok (.iastore, 1) := by decide +kernel
theorem dX2_put_28 : decode cX2_put 28 = .ok (.aload_n 0, 1) := by decide +kernel
theorem dX2_put_29 : decode cX2_put 29 = .ok (.getfield 7, 3) := by decide +kernel
theorem dX2_put_32 : decode cX2_put 32 = .ok (.aload_n 0, 1) := by decide +kernel
theorem dX2_put_33 : decode cX2_put 33 = .ok (.getfield 22, 3) := by decide +kernel
theorem dX2_put_36 : decode cX2_put 36 = .ok (.iconst 1, 1) := by decide +kernel
theorem dX2_put_37 : decode cX2_put 37 = .ok (.iadd, 1) := by decide +kernel
theorem dX2_put_38 : decode cX2_put 38 = .ok (.iload_n 2, 1) := by decide +kernel
theorem dX2_put_39 : decode cX2_put 39 = .ok (.sipush 255, 3) := by decide +kernel
theorem dX2_put_42 : decode cX2_put 42 = .ok (.iand, 1) := by decide +kernel
theorem dX2_put_43 : decode cX2_put 43 = .ok (.iastore, 1) := by decide +kernel
theorem dX2_put_44 : decode cX2_put 44 = .ok (.aload_n 0, 1) := by decide +kernel
theorem dX2_put_45 : decode cX2_put 45 = .ok (.getfield 7, 3) := by decide +kernel
theorem dX2_put_48 : decode cX2_put 48 = .ok (.aload_n 0, 1) := by decide +kernel
theorem dX2_put_49 : decode cX2_put 49 = .ok (.getfield 22, 3) := by decide +kernel
theorem dX2_put_52 : decode cX2_put 52 = .ok (.iconst 2, 1) := by decide +kernel
theorem dX2_put_53 : decode cX2_put 53 = .ok (.iadd, 1) := by decide +kernel
theorem dX2_put_54 : decode cX2_put 54 = .ok (.iload_n 3, 1) := by decide +kernel
theorem dX2_put_55 : decode cX2_put 55 = .ok (.sipush 255, 3) := by decide +kernel
theorem dX2_put_58 : decode cX2_put 58 = .ok (.iand, 1) := by decide +kernel
theorem dX2_put_59 : decode cX2_put 59 = .ok (.iastore, 1) := by decide +kernel
theorem dX2_put_60 : decode cX2_put 60 = .ok (.aload_n 0, 1) := by decide +kernel
theorem dX2_put_61 : decode cX2_put 61 = .ok (.getfield 7, 3) := by decide +kernel
theorem dX2_put_64 : decode cX2_put 64 = .ok (.aload_n 0, 1) := by decide +kernel
theorem dX2_put_65 : decode cX2_put 65 = .ok (.getfield 22, 3) := by decide +kernel
theorem dX2_put_68 : decode cX2_put 68 = .ok (.iconst 3, 1) := by decide +kernel
theorem dX2_put_69 : decode cX2_put 69 = .ok (.iadd, 1) := by decide +kernel
theorem dX2_put_70 : decode cX2_put 70 = .ok (.iload 4, 2) := by decide +kernel
theorem dX2_put_72 : decode cX2_put 72 = .ok (.sipush 255, 3) := by decide +kernel
theorem dX2_put_75 : decode cX2_put 75 = .ok (.iand, 1) := by decide +kernel
theorem dX2_put_76 : decode cX2_put 76 = .ok (.iastore, 1) := by decide +kernel
theorem dX2_put_77 : decode cX2_put 77 = .ok (.aload_n 0, 1) := by decide +kernel
theorem dX2_put_78 : decode cX2_put 78 = .ok (.aload_n 0, 1) := by decide +kernel
theorem dX2_put_79 : decode cX2_put 79 = .ok (.getfield 22, 3) := by decide +kernel
theorem dX2_put_82 : decode cX2_put 82 = .ok (.iconst 4, 1) := by decide +kernel
theorem dX2_put_83 : decode cX2_put 83 = .ok (.iadd, 1) := by decide +kernel
theorem dX2_put_84 : decode cX2_put 84 = .ok (.putfield 22, 3) := by decide +kernel
theorem dX2_put_87 : decode cX2_put 87 = .ok (.aload_n 0, 1) := by decide +kernel
theorem dX2_put_88 : decode cX2_put 88 = .ok (.getfield 22, 3) := by decide +kernel
theorem dX2_put_91 : decode cX2_put 91 = .ok (.ireturn, 1) := by decide +kernel
abbrev cX2_repeat : ByteArray := prog_4_method_3_code
def yX2_repeat : MethodName := ⟨RX2, "repeat", "(II)I"⟩
theorem dX2_repeat_0 : decode cX2_repeat 0 = .ok (.aload_n 0, 1) := by decide +kernel
theorem dX2_repeat_1 : decode cX2_repeat 1 = .ok (.getfield 22, 3) := by decide +kernel
theorem dX2_repeat_4 : decode cX2_repeat 4 = .ok (.ifCond .ne 5, 3) := by decide +kernel
theorem dX2_repeat_7 : decode cX2_repeat 7 = .ok (.iconst (-1), 1) := by decide +kernel
theorem dX2_repeat_8 : decode cX2_repeat 8 = .ok (.ireturn, 1) := by decide +kernel
theorem dX2_repeat_9 : decode cX2_repeat 9 = .ok (.iload_n 1, 1) := by decide +kernel
theorem dX2_repeat_10 : decode cX2_repeat 10 = .ok (.ldc 26, 2) := by decide +kernel
theorem dX2_repeat_12 : decode cX2_repeat 12 = .ok (.iand, 1) := by decide +kernel
theorem dX2_repeat_13 : decode cX2_repeat 13 = .ok (.aload_n 0, 1) := by decide +kernel
theorem dX2_repeat_14 : decode cX2_repeat 14 = .ok (.getfield 22, 3) := by decide +kernel
theorem dX2_repeat_17 : decode cX2_repeat 17 = .ok (.irem, 1) := by decide +kernel
theorem dX2_repeat_18 : decode cX2_repeat 18 = .ok (.istore_n 3, 1) := by decide +kernel
theorem dX2_repeat_19 : decode cX2_repeat 19 = .ok (.iload_n 2, 1) := by decide +kernel
theorem dX2_repeat_20 : decode cX2_repeat 20 = .ok (.ldc 26, 2) := by decide +kernel
theorem dX2_repeat_22 : decode cX2_repeat 22 = .ok (.iand, 1) := by decide +kernel
theorem dX2_repeat_23 : decode cX2_repeat 23 = .ok (.sipush 129, 3) := by decide +kernel
theorem dX2_repeat_26 : decode cX2_repeat 26 = .ok (.irem, 1) := by decide +kernel
theorem dX2_repeat_27 : decode cX2_repeat 27 = .ok (.istore 4, 2) := by decide +kernel
theorem dX2_repeat_29 : decode cX2_repeat 29 = .ok (.aload_n 0, 1) := by decide +kernel
theorem dX2_repeat_30 : decode cX2_repeat 30 = .ok (.getfield 22, 3) := by decide +kernel
theorem dX2_repeat_33 : decode cX2_repeat 33 = .ok (.iload 4, 2) := by decide +kernel
theorem dX2_repeat_35 : decode cX2_repeat 35 = .ok (.iadd, 1) := by decide +kernel
theorem dX2_repeat_36 : decode cX2_repeat 36 = .ok (.sipush 256, 3) := by decide +kernel
theorem dX2_repeat_39 : decode cX2_repeat 39 = .ok (.if_icmp .le 13, 3) := by decide +kernel
theorem dX2_repeat_42 : decode cX2_repeat 42 = .ok (.sipush 256, 3) := by decide +kernel
theorem dX2_repeat_45 : decode cX2_repeat 45 = .ok (.aload_n 0, 1) := by decide +kernel
theorem dX2_repeat_46 : decode cX2_repeat 46 = .ok (.getfield 22, 3) := by decide +kernel
theorem dX2_repeat_49 : decode cX2_repeat 49 = .ok (.isub, 1) := by decide +kernel
theorem dX2_repeat_50 : decode cX2_repeat 50 = .ok (.istore 4, 2) := by decide +kernel
theorem dX2_repeat_52 : decode cX2_repeat 52 = .ok (.iconst 0, 1) := by decide +kernel
theorem dX2_repeat_53 : decode cX2_repeat 53 = .ok (.istore 5, 2) := by decide +kernel
theorem dX2_repeat_55 : decode cX2_repeat 55 = .ok (.iload 5, 2) := by decide +kernel
theorem dX2_repeat_57 : decode cX2_repeat 57 = .ok (.iload 4, 2) := by decide +kernel
theorem dX2_repeat_59 : decode cX2_repeat 59 = .ok (.if_icmp .ge 37, 3) := by decide +kernel
theorem dX2_repeat_62 : decode cX2_repeat 62 = .ok (.aload_n 0, 1) := by decide +kernel
theorem dX2_repeat_63 : decode cX2_repeat 63 = .ok (.getfield 7, 3) := by decide +kernel
theorem dX2_repeat_66 : decode cX2_repeat 66 = .ok (.aload_n 0, 1) := by decide +kernel
theorem dX2_repeat_67 : decode cX2_repeat 67 = .ok (.getfield 22, 3) := by decide +kernel
theorem dX2_repeat_70 : decode cX2_repeat 70 = .ok (.aload_n 0, 1) := by decide +kernel
theorem dX2_repeat_71 : decode cX2_repeat 71 = .ok (.getfield 7, 3) := by decide +kernel
theorem dX2_repeat_74 : decode cX2_repeat 74 = .ok (.iload_n 3, 1) := by decide +kernel
theorem dX2_repeat_75 : decode cX2_repeat 75 = .ok (.iload 5, 2) := by decide +kernel
theorem dX2_repeat_77 : decode cX2_repeat 77 = .ok (.iadd, 1) := by decide +kernel
theorem dX2_repeat_78 : decode cX2_repeat 78 = .ok (.iaload, 1) := by decide +kernel
theorem dX2_repeat_79 : decode cX2_repeat 79 = .ok (.iastore, 1) := by decide +kernel
theorem dX2_repeat_80 : decode cX2_repeat 80 = .ok (.aload_n 0, 1) := by decide +kernel
theorem dX2_repeat_81 : decode cX2_repeat 81 = .ok (.aload_n 0, 1) := by decide +kernel
theorem dX2_repeat_82 : decode cX2_repeat 82 = .ok (.getfield 22, 3) := by decide +kernel
theorem dX2_repeat_85 : decode cX2_repeat 85 = .ok (.iconst 1, 1) := by decide +kernel
theorem dX2_repeat_86 : decode cX2_repeat 86 = .ok (.iadd, 1) := by decide +kernel
theorem dX2_repeat_87 : decode cX2_repeat 87 = .ok (.putfield 22, 3) := by decide +kernel
theorem dX2_repeat_90 : decode cX2_repeat 90 = .ok (.iinc 5 1, 3) := by decide +kernel
theorem dX2_repeat_93 : decode cX2_repeat 93 = .ok (.goto (-38), 3) := by decide +kernel
theorem dX2_repeat_96 : decode cX2_repeat 96 = .ok (.iload 4, 2) := by decide +kernel
theorem dX2_repeat_98 : decode cX2_repeat 98 = .ok (.ireturn, 1) := by decide +kernel
abbrev cX2_turn : ByteArray := prog_4_method_5_code
def yX2_turn : MethodName := ⟨RX2, "turn", "()Z"⟩
theorem dX2_turn_0 : decode cX2_turn 0 = .ok (.aload_n 0, 1) := by decide +kernel
theorem dX2_turn_1 : decode cX2_turn 1 = .ok (.getfield 22, 3) := by decide +kernel
theorem dX2_turn_4 : decode cX2_turn 4 = .ok (.iconst 2, 1) := by decide +kernel
theorem dX2_turn_5 : decode cX2_turn 5 = .ok (.if_icmp .ge 5, 3) := by decide +kernel
theorem dX2_turn_8 : decode cX2_turn 8 = .ok (.iconst 0, 1) := by decide +kernel
theorem dX2_turn_9 : decode cX2_turn 9 = .ok (.ireturn, 1) := by decide +kernel
theorem dX2_turn_10 : decode cX2_turn 10 = .ok (.iconst 0, 1) := by decide +kernel
theorem dX2_turn_11 : decode cX2_turn 11 = .ok (.istore_n 1, 1) := by decide +kernel
theorem dX2_turn_12 : decode cX2_turn 12 = .ok (.iload_n 1, 1) := by decide +kernel
theorem dX2_turn_13 : decode cX2_turn 13 = .ok (.aload_n 0, 1) := by decide +kernel
theorem dX2_turn_14 : decode cX2_turn 14 = .ok (.getfield 22, 3) := by decide +kernel
theorem dX2_turn_17 : decode cX2_turn 17 = .ok (.if_icmp .ge 59, 3) := by decide +kernel
theorem dX2_turn_20 : decode cX2_turn 20 = .ok (.iload_n 1, 1) := by decide +kernel
theorem dX2_turn_21 : decode cX2_turn 21 = .ok (.istore_n 2, 1) := by decide +kernel
theorem dX2_turn_22 : decode cX2_turn 22 = .ok (.iload_n 2, 1) := by decide +kernel
theorem dX2_turn_23 : decode cX2_turn 23 = .ok (.ifCond .le 40, 3) := by decide +kernel
theorem dX2_turn_26 : decode cX2_turn 26 = .ok (.aload_n 0, 1) := by decide +kernel
theorem dX2_turn_27 : decode cX2_turn 27 = .ok (.iload_n 1, 1) := by decide +kernel
theorem dX2_turn_28 : decode cX2_turn 28 = .ok (.aload_n 0, 1) := by decide +kernel
theorem dX2_turn_29 : decode cX2_turn 29 = .ok (.getfield 13, 3) := by decide +kernel
theorem dX2_turn_32 : decode cX2_turn 32 = .ok (.iload_n 2, 1) := by decide +kernel
theorem dX2_turn_33 : decode cX2_turn 33 = .ok (.iconst 1, 1) := by decide +kernel
theorem dX2_turn_34 : decode cX2_turn 34 = .ok (.isub, 1) := by decide +kernel
theorem dX2_turn_35 : decode cX2_turn 35 = .ok (.iaload, 1) := by decide +kernel
theorem dX2_turn_36 : decode cX2_turn 36 = .ok (.invokevirtual 27, 3) := by decide +kernel
theorem dX2_turn_39 : decode cX2_turn 39 = .ok (.ifCond .eq 24, 3) := by decide +kernel
theorem dX2_turn_42 : decode cX2_turn 42 = .ok (.aload_n 0, 1) := by decide +kernel
theorem dX2_turn_43 : decode cX2_turn 43 = .ok (.getfield 13, 3) := by decide +kernel
theorem dX2_turn_46 : decode cX2_turn 46 = .ok (.iload_n 2, 1) := by decide +kernel
theorem dX2_turn_47 : decode cX2_turn 47 = .ok (.aload_n 0, 1) := by decide +kernel
theorem dX2_turn_48 : decode cX2_turn 48 = .ok (.getfield 13, 3) := by decide +kernel
theorem dX2_turn_51 : decode cX2_turn 51 = .ok (.iload_n 2, 1) := by decide +kernel
theorem dX2_turn_52 : decode cX2_turn 52 = .ok (.iconst 1, 1) := by decide +kernel
theorem dX2_turn_53 : decode cX2_turn 53 = .ok (.isub, 1) := by decide +kernel
theorem dX2_turn_54 : decode cX2_turn 54 = .ok (.iaload, 1) := by decide +kernel
theorem dX2_turn_55 : decode cX2_turn 55 = .ok (.iastore, 1) := by decide +kernel
theorem dX2_turn_56 : decode cX2_turn 56 = .ok (.iload_n 2, 1) := by decide +kernel
theorem dX2_turn_57 : decode cX2_turn 57 = .ok (.iconst 1, 1) := by decide +kernel
theorem dX2_turn_58 : decode cX2_turn 58 = .ok (.isub, 1) := by decide +kernel
theorem dX2_turn_59 : decode cX2_turn 59 = .ok (.istore_n 2, 1) := by decide +kernel
theorem dX2_turn_60 : decode cX2_turn 60 = .ok (.goto (-38), 3) := by decide +kernel
theorem dX2_turn_63 : decode cX2_turn 63 = .ok (.aload_n 0, 1) := by decide +kernel
theorem dX2_turn_64 : decode cX2_turn 64 = .ok (.getfield 13, 3) := by decide +kernel
theorem dX2_turn_67 : decode cX2_turn 67 = .ok (.iload_n 2, 1) := by decide +kernel
theorem dX2_turn_68 : decode cX2_turn 68 = .ok (.iload_n 1, 1) := by decide +kernel
theorem dX2_turn_69 : decode cX2_turn 69 = .ok (.iastore, 1) := by decide +kernel
theorem dX2_turn_70 : decode cX2_turn 70 = .ok (.iinc 1 1, 3) := by decide +kernel
theorem dX2_turn_73 : decode cX2_turn 73 = .ok (.goto (-61), 3) := by decide +kernel
theorem dX2_turn_76 : decode cX2_turn 76 = .ok (.iconst 0, 1) := by decide +kernel
theorem dX2_turn_77 : decode cX2_turn 77 = .ok (.istore_n 1, 1) := by decide +kernel
theorem dX2_turn_78 : decode cX2_turn 78 = .ok (.iload_n 1, 1) := by decide +kernel
theorem dX2_turn_79 : decode cX2_turn 79 = .ok (.aload_n 0, 1) := by decide +kernel
theorem dX2_turn_80 : decode cX2_turn 80 = .ok (.getfield 22, 3) := by decide +kernel
theorem dX2_turn_83 : decode cX2_turn 83 = .ok (.if_icmp .ge 50, 3) := by decide +kernel
theorem dX2_turn_86 : decode cX2_turn 86 = .ok (.aload_n 0, 1) := by decide +kernel
theorem dX2_turn_87 : decode cX2_turn 87 = .ok (.getfield 16, 3) := by decide +kernel
theorem dX2_turn_90 : decode cX2_turn 90 = .ok (.iload_n 1, 1) := by decide +kernel
theorem dX2_turn_91 : decode cX2_turn 91 = .ok (.aload_n 0, 1) := by decide +kernel
theorem dX2_turn_92 : decode cX2_turn 92 = .ok (.getfield 7, 3) := by decide +kernel
theorem dX2_turn_95 : decode cX2_turn 95 = .ok (.aload_n 0, 1) := by decide +kernel
theorem dX2_turn_96 : decode cX2_turn 96 = .ok (.getfield 13, 3) := by decide +kernel
theorem dX2_turn_99 : decode cX2_turn 99 = .ok (.iload_n 1, 1) := by decide +kernel
theorem dX2_turn_100 : decode cX2_turn 100 = .ok (.iaload, 1) := by decide +kernel
theorem dX2_turn_101 : decode cX2_turn 101 = .ok (.aload_n 0, 1) := by decide +kernel
theorem dX2_turn_102 : decode cX2_turn 102 = .ok (.getfield 22, 3) := by decide +kernel
theorem dX2_turn_105 : decode cX2_turn 105 = .ok (.iadd, 1) := by decide +kernel
theorem dX2_turn_106 : decode cX2_turn 106 = .ok (.iconst 1, 1) := by decide +kernel
theorem dX2_turn_107 : decode cX2_turn 107 = .ok (.isub, 1) := by decide +kernel
theorem dX2_turn_108 : decode cX2_turn 108 = .ok (.aload_n 0, 1) := by decide +kernel
theorem dX2_turn_109 : decode cX2_turn 109 = .ok (.getfield 22, 3) := by decide +kernel
theorem dX2_turn_112 : decode cX2_turn 112 = .ok (.irem, 1) := by decide +kernel
theorem dX2_turn_113 : decode cX2_turn 113 = .ok (.iaload, 1) := by decide +kernel
theorem dX2_turn_114 : decode cX2_turn 114 = .ok (.iastore, 1) := by decide +kernel
theorem dX2_turn_115 : decode cX2_turn 115 = .ok (.aload_n 0, 1) := by decide +kernel
theorem dX2_turn_116 : decode cX2_turn 116 = .ok (.getfield 19, 3) := by decide +kernel
theorem dX2_turn_119 : decode cX2_turn 119 = .ok (.iload_n 1, 1) := by decide +kernel
theorem dX2_turn_120 : decode cX2_turn 120 = .ok (.aload_n 0, 1) := by decide +kernel
theorem dX2_turn_121 : decode cX2_turn 121 = .ok (.getfield 7, 3) := by decide +kernel
theorem dX2_turn_124 : decode cX2_turn 124 = .ok (.iload_n 1, 1) := by decide +kernel
theorem dX2_turn_125 : decode cX2_turn 125 = .ok (.iaload, 1) := by decide +kernel
theorem dX2_turn_126 : decode cX2_turn 126 = .ok (.iastore, 1) := by decide +kernel
theorem dX2_turn_127 : decode cX2_turn 127 = .ok (.iinc 1 1, 3) := by decide +kernel
theorem dX2_turn_130 : decode cX2_turn 130 = .ok (.goto (-52), 3) := by decide +kernel
theorem dX2_turn_133 : decode cX2_turn 133 = .ok (.aload_n 0, 1) := by decide +kernel
theorem dX2_turn_134 : decode cX2_turn 134 = .ok (.aload_n 0, 1) := by decide +kernel
theorem dX2_turn_135 : decode cX2_turn 135 = .ok (.getfield 22, 3) := by decide +kernel
theorem dX2_turn_138 : decode cX2_turn 138 = .ok (.putfield 31, 3) := by decide +kernel
theorem dX2_turn_141 : decode cX2_turn 141 = .ok (.iconst 1, 1) := by decide +kernel
theorem dX2_turn_142 : decode cX2_turn 142 = .ok (.ireturn, 1) := by decide +kernel
abbrev cX2_before : ByteArray := prog_4_method_4_code
def yX2_before : MethodName := ⟨RX2, "before", "(II)Z"⟩
theorem dX2_before_0 : decode cX2_before 0 = .ok (.iconst 0, 1) := by decide +kernel
theorem dX2_before_1 : decode cX2_before 1 = .ok (.istore_n 3, 1) := by decide +kernel
theorem dX2_before_2 : decode cX2_before 2 = .ok (.iload_n 3, 1) := by decide +kernel
theorem dX2_before_3 : decode cX2_before 3 = .ok (.aload_n 0, 1) := by decide +kernel
theorem dX2_before_4 : decode cX2_before 4 = .ok (.getfield 22, 3) := by decide +kernel
theorem dX2_before_7 : decode cX2_before 7 = .ok (.if_icmp .ge 59, 3) := by decide +kernel
theorem dX2_before_10 : decode cX2_before 10 = .ok (.aload_n 0, 1) := by decide +kernel
theorem dX2_before_11 : decode cX2_before 11 = .ok (.getfield 7, 3) := by decide +kernel
theorem dX2_before_14 : decode cX2_before 14 = .ok (.iload_n 1, 1) := by decide +kernel
theorem dX2_before_15 : decode cX2_before 15 = .ok (.iload_n 3, 1) := by decide +kernel
theorem dX2_before_16 : decode cX2_before 16 = .ok (.iadd, 1) := by decide +kernel
theorem dX2_before_17 : decode cX2_before 17 = .ok (.aload_n 0, 1) := by decide +kernel
theorem dX2_before_18 : decode cX2_before 18 = .ok (.getfield 22, 3) := by decide +kernel
theorem dX2_before_21 : decode cX2_before 21 = .ok (.irem, 1) := by decide +kernel
theorem dX2_before_22 : decode cX2_before 22 = .ok (.iaload, 1) := by decide +kernel
theorem dX2_before_23 : decode cX2_before 23 = .ok (.istore 4, 2) := by decide +kernel
theorem dX2_before_25 : decode cX2_before 25 = .ok (.aload_n 0, 1) := by decide +kernel
theorem dX2_before_26 : decode cX2_before 26 = .ok (.getfield 7, 3) := by decide +kernel
theorem dX2_before_29 : decode cX2_before 29 = .ok (.iload_n 2, 1) := by decide +kernel
theorem dX2_before_30 : decode cX2_before 30 = .ok (.iload_n 3, 1) := by decide +kernel
theorem dX2_before_31 : decode cX2_before 31 = .ok (.iadd, 1) := by decide +kernel
theorem dX2_before_32 : decode cX2_before 32 = .ok (.aload_n 0, 1) := by decide +kernel
theorem dX2_before_33 : decode cX2_before 33 = .ok (.getfield 22, 3) := by decide +kernel
theorem dX2_before_36 : decode cX2_before 36 = .ok (.irem, 1) := by decide +kernel
theorem dX2_before_37 : decode cX2_before 37 = .ok (.iaload, 1) := by decide +kernel
theorem dX2_before_38 : decode cX2_before 38 = .ok (.istore 5, 2) := by decide +kernel
theorem dX2_before_40 : decode cX2_before 40 = .ok (.iload 4, 2) := by decide +kernel
theorem dX2_before_42 : decode cX2_before 42 = .ok (.iload 5, 2) := by decide +kernel
theorem dX2_before_44 : decode cX2_before 44 = .ok (.if_icmp .eq 16, 3) := by decide +kernel
theorem dX2_before_47 : decode cX2_before 47 = .ok (.iload 4, 2) := by decide +kernel
theorem dX2_before_49 : decode cX2_before 49 = .ok (.iload 5, 2) := by decide +kernel
theorem dX2_before_51 : decode cX2_before 51 = .ok (.if_icmp .ge 7, 3) := by decide +kernel
theorem dX2_before_54 : decode cX2_before 54 = .ok (.iconst 1, 1) := by decide +kernel
theorem dX2_before_55 : decode cX2_before 55 = .ok (.goto 4, 3) := by decide +kernel
theorem dX2_before_58 : decode cX2_before 58 = .ok (.iconst 0, 1) := by decide +kernel
theorem dX2_before_59 : decode cX2_before 59 = .ok (.ireturn, 1) := by decide +kernel
theorem dX2_before_60 : decode cX2_before 60 = .ok (.iinc 3 1, 3) := by decide +kernel
theorem dX2_before_63 : decode cX2_before 63 = .ok (.goto (-61), 3) := by decide +kernel
theorem dX2_before_66 : decode cX2_before 66 = .ok (.iconst 0, 1) := by decide +kernel
theorem dX2_before_67 : decode cX2_before 67 = .ok (.ireturn, 1) := by decide +kernel
abbrev cX2_at : ByteArray := prog_4_method_6_code
def yX2_at : MethodName := ⟨RX2, "at", "(I)I"⟩
theorem dX2_at_0 : decode cX2_at 0 = .ok (.aload_n 0, 1) := by decide +kernel
theorem dX2_at_1 : decode cX2_at 1 = .ok (.getfield 31, 3) := by decide +kernel
theorem dX2_at_4 : decode cX2_at 4 = .ok (.ifCond .ne 7, 3) := by decide +kernel
theorem dX2_at_7 : decode cX2_at 7 = .ok (.iconst (-1), 1) := by decide +kernel
theorem dX2_at_8 : decode cX2_at 8 = .ok (.goto 17, 3) := by decide +kernel
theorem dX2_at_11 : decode cX2_at 11 = .ok (.aload_n 0, 1) := by decide +kernel
theorem dX2_at_12 : decode cX2_at 12 = .ok (.getfield 16, 3) := by decide +kernel
theorem dX2_at_15 : decode cX2_at 15 = .ok (.iload_n 1, 1) := by decide +kernel
theorem dX2_at_16 : decode cX2_at 16 = .ok (.ldc 26, 2) := by decide +kernel
theorem dX2_at_18 : decode cX2_at 18 = .ok (.iand, 1) := by decide +kernel
theorem dX2_at_19 : decode cX2_at 19 = .ok (.aload_n 0, 1) := by decide +kernel
theorem dX2_at_20 : decode cX2_at 20 = .ok (.getfield 31, 3) := by decide +kernel
theorem dX2_at_23 : decode cX2_at 23 = .ok (.irem, 1) := by decide +kernel
theorem dX2_at_24 : decode cX2_at 24 = .ok (.iaload, 1) := by decide +kernel
theorem dX2_at_25 : decode cX2_at 25 = .ok (.ireturn, 1) := by decide +kernel
abbrev cX2_back : ByteArray := prog_4_method_7_code
def yX2_back : MethodName := ⟨RX2, "back", "(I)I"⟩
theorem dX2_back_0 : decode cX2_back 0 = .ok (.aload_n 0, 1) := by decide +kernel
theorem dX2_back_1 : decode cX2_back 1 = .ok (.getfield 31, 3) := by decide +kernel
theorem dX2_back_4 : decode cX2_back 4 = .ok (.ifCond .ne 7, 3) := by decide +kernel
theorem dX2_back_7 : decode cX2_back 7 = .ok (.iconst (-1), 1) := by decide +kernel
theorem dX2_back_8 : decode cX2_back 8 = .ok (.goto 17, 3) := by decide +kernel
theorem dX2_back_11 : decode cX2_back 11 = .ok (.aload_n 0, 1) := by decide +kernel
theorem dX2_back_12 : decode cX2_back 12 = .ok (.getfield 19, 3) := by decide +kernel
theorem dX2_back_15 : decode cX2_back 15 = .ok (.iload_n 1, 1) := by decide +kernel
theorem dX2_back_16 : decode cX2_back 16 = .ok (.ldc 26, 2) := by decide +kernel
theorem dX2_back_18 : decode cX2_back 18 = .ok (.iand, 1) := by decide +kernel
theorem dX2_back_19 : decode cX2_back 19 = .ok (.aload_n 0, 1) := by decide +kernel
theorem dX2_back_20 : decode cX2_back 20 = .ok (.getfield 31, 3) := by decide +kernel
theorem dX2_back_23 : decode cX2_back 23 = .ok (.irem, 1) := by decide +kernel
theorem dX2_back_24 : decode cX2_back 24 = .ok (.iaload, 1) := by decide +kernel
theorem dX2_back_25 : decode cX2_back 25 = .ok (.ireturn, 1) := by decide +kernel
abbrev cX2_clear : ByteArray := prog_4_method_8_code
def yX2_clear : MethodName := ⟨RX2, "clear", "()V"⟩
theorem dX2_clear_0 : decode cX2_clear 0 = .ok (.aload_n 0, 1) := by decide +kernel
theorem dX2_clear_1 : decode cX2_clear 1 = .ok (.iconst 0, 1) := by decide +kernel
theorem dX2_clear_2 : decode cX2_clear 2 = .ok (.putfield 22, 3) := by decide +kernel
theorem dX2_clear_5 : decode cX2_clear 5 = .ok (.return_, 1) := by decide +kernel
theorem q11 : (Jvm.Cond.initialized "RotationSortModel") ∈ lw_all := lw_g (lw_at lw_m0 3 rfl) rfl
theorem q134 : (Jvm.Cond.instantiable "RotationSortModel" (6 : Nat)) ∈ lw_all := lw_g (lw_at lw_m0 126 rfl) rfl
theorem q136 : (Jvm.Cond.instanceMethod ({ cls := "RotationSortModel", name := "<init>", desc := "()V" } : Jvm.MethodName)) ∈ lw_all := lw_g (lw_at lw_m0 128 rfl) rfl
theorem q137 : (Jvm.Cond.code ({ cls := "RotationSortModel", name := "<init>", desc := "()V" } : Jvm.MethodName) prog_4_method_1_code (1 : Nat) (Option.none : Option Jvm.ClassFile.FieldType)) ∈ lw_all := lw_g (lw_at lw_m0 129 rfl) rfl
theorem q138 : (Jvm.Cond.methodLink "RotationSortModel" (1 : Nat) ({ cls := "java/lang/Object", name := "<init>", desc := "()V" } : Jvm.MethodName)) ∈ lw_all := lw_g (lw_at lw_m0 130 rfl) rfl
theorem q139 : (Jvm.Cond.fieldLink "RotationSortModel" (7 : Nat) "RotationSortModel" "block" "[I") ∈ lw_all := lw_g (lw_at lw_m0 131 rfl) rfl
theorem q140 : (Jvm.Cond.fieldLink "RotationSortModel" (13 : Nat) "RotationSortModel" "start" "[I") ∈ lw_all := lw_g (lw_at lw_m0 132 rfl) rfl
theorem q141 : (Jvm.Cond.fieldLink "RotationSortModel" (16 : Nat) "RotationSortModel" "column" "[I") ∈ lw_all := lw_g (lw_at lw_m0 133 rfl) rfl
theorem q142 : (Jvm.Cond.fieldLink "RotationSortModel" (19 : Nat) "RotationSortModel" "kept" "[I") ∈ lw_all := lw_g (lw_at lw_m0 134 rfl) rfl
theorem q143 : (Jvm.Cond.fieldLink "RotationSortModel" (22 : Nat) "RotationSortModel" "size" "I") ∈ lw_all := lw_g (lw_at lw_m0 135 rfl) rfl
theorem q144 : (Jvm.Cond.fieldLink "RotationSortModel" (31 : Nat) "RotationSortModel" "made" "I") ∈ lw_all := lw_g (lw_at lw_m0 136 rfl) rfl
theorem q145 : (Jvm.Cond.laysFinal "RotationSortModel" "RotationSortModel" "block" "[I") ∈ lw_all := lw_g (lw_at lw_m0 137 rfl) rfl
theorem q146 : (Jvm.Cond.soleField "RotationSortModel" "block") ∈ lw_all := lw_g (lw_at lw_m0 138 rfl) rfl
theorem q147 : (Jvm.Cond.laysFinal "RotationSortModel" "RotationSortModel" "start" "[I") ∈ lw_all := lw_g (lw_at lw_m0 139 rfl) rfl
theorem q148 : (Jvm.Cond.soleField "RotationSortModel" "start") ∈ lw_all := lw_g (lw_at lw_m0 140 rfl) rfl
theorem q149 : (Jvm.Cond.laysFinal "RotationSortModel" "RotationSortModel" "column" "[I") ∈ lw_all := lw_g (lw_at lw_m0 141 rfl) rfl
theorem q150 : (Jvm.Cond.soleField "RotationSortModel" "column") ∈ lw_all := lw_g (lw_at lw_m0 142 rfl) rfl
theorem q151 : (Jvm.Cond.laysFinal "RotationSortModel" "RotationSortModel" "kept" "[I") ∈ lw_all := lw_g (lw_at lw_m0 143 rfl) rfl
theorem q152 : (Jvm.Cond.soleField "RotationSortModel" "kept") ∈ lw_all := lw_g (lw_at lw_m0 144 rfl) rfl
theorem q153 : (Jvm.Cond.lays "RotationSortModel" "RotationSortModel" "size" "I") ∈ lw_all := lw_g (lw_at lw_m0 145 rfl) rfl
theorem q154 : (Jvm.Cond.soleField "RotationSortModel" "size") ∈ lw_all := lw_g (lw_at lw_m0 146 rfl) rfl
theorem q155 : (Jvm.Cond.lays "RotationSortModel" "RotationSortModel" "made" "I") ∈ lw_all := lw_g (lw_at lw_m0 147 rfl) rfl
theorem q156 : (Jvm.Cond.soleField "RotationSortModel" "made") ∈ lw_all := lw_g (lw_at lw_m0 148 rfl) rfl
theorem q157 : (Jvm.Cond.superclass "RotationSortModel" "java/lang/Object") ∈ lw_all := lw_g (lw_at lw_m0 149 rfl) rfl
theorem q159 : (Jvm.Cond.instanceMethod ({ cls := "RotationSortModel", name := "put", desc := "(IIII)I" } : Jvm.MethodName)) ∈ lw_all := lw_g (lw_at lw_m0 151 rfl) rfl
theorem q160 : (Jvm.Cond.selects "RotationSortModel" ({ cls := "RotationSortModel", name := "put", desc := "(IIII)I" } : Jvm.MethodName) ({ cls := "RotationSortModel", name := "put", desc := "(IIII)I" } : Jvm.MethodName)) ∈ lw_all := lw_g (lw_at lw_m0 152 rfl) rfl
theorem q161 : (Jvm.Cond.code ({ cls := "RotationSortModel", name := "put", desc := "(IIII)I" } : Jvm.MethodName) prog_4_method_2_code (5 : Nat) (Option.some Jvm.ClassFile.FieldType.int)) ∈ lw_all := lw_g (lw_at lw_m0 153 rfl) rfl
theorem q163 : (Jvm.Cond.instanceMethod ({ cls := "RotationSortModel", name := "repeat", desc := "(II)I" } : Jvm.MethodName)) ∈ lw_all := lw_g (lw_at lw_m0 155 rfl) rfl
theorem q164 : (Jvm.Cond.selects "RotationSortModel" ({ cls := "RotationSortModel", name := "repeat", desc := "(II)I" } : Jvm.MethodName) ({ cls := "RotationSortModel", name := "repeat", desc := "(II)I" } : Jvm.MethodName)) ∈ lw_all := lw_g (lw_at lw_m0 156 rfl) rfl
theorem q165 : (Jvm.Cond.code ({ cls := "RotationSortModel", name := "repeat", desc := "(II)I" } : Jvm.MethodName) prog_4_method_3_code (6 : Nat) (Option.some Jvm.ClassFile.FieldType.int)) ∈ lw_all := lw_g (lw_at lw_m0 157 rfl) rfl
theorem q166 : (Jvm.Cond.constant "RotationSortModel" (26 : Nat) (2147483647 : Int32)) ∈ lw_all := lw_g (lw_at lw_m0 158 rfl) rfl
theorem q168 : (Jvm.Cond.instanceMethod ({ cls := "RotationSortModel", name := "turn", desc := "()Z" } : Jvm.MethodName)) ∈ lw_all := lw_g (lw_at lw_m0 160 rfl) rfl
theorem q169 : (Jvm.Cond.selects "RotationSortModel" ({ cls := "RotationSortModel", name := "turn", desc := "()Z" } : Jvm.MethodName) ({ cls := "RotationSortModel", name := "turn", desc := "()Z" } : Jvm.MethodName)) ∈ lw_all := lw_g (lw_at lw_m0 161 rfl) rfl
theorem q170 : (Jvm.Cond.code ({ cls := "RotationSortModel", name := "turn", desc := "()Z" } : Jvm.MethodName) prog_4_method_5_code (3 : Nat) (Option.some Jvm.ClassFile.FieldType.boolean)) ∈ lw_all := lw_g (lw_at lw_m0 162 rfl) rfl
theorem q171 : (Jvm.Cond.methodLink "RotationSortModel" (27 : Nat) ({ cls := "RotationSortModel", name := "before", desc := "(II)Z" } : Jvm.MethodName)) ∈ lw_all := lw_g (lw_at lw_m0 163 rfl) rfl
theorem q172 : (Jvm.Cond.privateMethod ({ cls := "RotationSortModel", name := "before", desc := "(II)Z" } : Jvm.MethodName)) ∈ lw_tbl := lw_at lw_m0 164 rfl
theorem q173 : (Jvm.Cond.instanceMethod ({ cls := "RotationSortModel", name := "before", desc := "(II)Z" } : Jvm.MethodName)) ∈ lw_all := lw_g (lw_at lw_m0 165 rfl) rfl
theorem q174 : (Jvm.Cond.code ({ cls := "RotationSortModel", name := "before", desc := "(II)Z" } : Jvm.MethodName) prog_4_method_4_code (6 : Nat) (Option.some Jvm.ClassFile.FieldType.boolean)) ∈ lw_all := lw_g (lw_at lw_m0 166 rfl) rfl
theorem q176 : (Jvm.Cond.instanceMethod ({ cls := "RotationSortModel", name := "at", desc := "(I)I" } : Jvm.MethodName)) ∈ lw_all := lw_g (lw_at lw_m0 168 rfl) rfl
theorem q177 : (Jvm.Cond.selects "RotationSortModel" ({ cls := "RotationSortModel", name := "at", desc := "(I)I" } : Jvm.MethodName) ({ cls := "RotationSortModel", name := "at", desc := "(I)I" } : Jvm.MethodName)) ∈ lw_all := lw_g (lw_at lw_m0 169 rfl) rfl
theorem q178 : (Jvm.Cond.code ({ cls := "RotationSortModel", name := "at", desc := "(I)I" } : Jvm.MethodName) prog_4_method_6_code (2 : Nat) (Option.some Jvm.ClassFile.FieldType.int)) ∈ lw_all := lw_g (lw_at lw_m0 170 rfl) rfl
theorem q180 : (Jvm.Cond.instanceMethod ({ cls := "RotationSortModel", name := "back", desc := "(I)I" } : Jvm.MethodName)) ∈ lw_all := lw_g (lw_at lw_m0 172 rfl) rfl
theorem q181 : (Jvm.Cond.selects "RotationSortModel" ({ cls := "RotationSortModel", name := "back", desc := "(I)I" } : Jvm.MethodName) ({ cls := "RotationSortModel", name := "back", desc := "(I)I" } : Jvm.MethodName)) ∈ lw_all := lw_g (lw_at lw_m0 173 rfl) rfl
theorem q182 : (Jvm.Cond.code ({ cls := "RotationSortModel", name := "back", desc := "(I)I" } : Jvm.MethodName) prog_4_method_7_code (2 : Nat) (Option.some Jvm.ClassFile.FieldType.int)) ∈ lw_all := lw_g (lw_at lw_m0 174 rfl) rfl
theorem q184 : (Jvm.Cond.instanceMethod ({ cls := "RotationSortModel", name := "clear", desc := "()V" } : Jvm.MethodName)) ∈ lw_all := lw_g (lw_at lw_m0 176 rfl) rfl
theorem q185 : (Jvm.Cond.selects "RotationSortModel" ({ cls := "RotationSortModel", name := "clear", desc := "()V" } : Jvm.MethodName) ({ cls := "RotationSortModel", name := "clear", desc := "()V" } : Jvm.MethodName)) ∈ lw_all := lw_g (lw_at lw_m0 177 rfl) rfl
theorem q186 : (Jvm.Cond.code ({ cls := "RotationSortModel", name := "clear", desc := "()V" } : Jvm.MethodName) prog_4_method_8_code (1 : Nat) (Option.none : Option Jvm.ClassFile.FieldType)) ∈ lw_all := lw_g (lw_at lw_m0 178 rfl) rfl
theorem in_X2 : ∀ w ∈ wsX20, w ∈ lw_all := lw_in wsX20 [145, 147, 149, 151, 153, 155] (by decide +kernel) (by decide +kernel)
end
section
/-! java/lang/Math -/
set_option maxRecDepth 100000
def RJ0 : String := "java/lang/Math"
abbrev cJ0_min : ByteArray := prog_5_method_69_code
def yJ0_min : MethodName := ⟨RJ0, "min", "(II)I"⟩
theorem dJ0_min_0 : decode cJ0_min 0 = .ok (.iload_n 0, 1) := by decide +kernel
theorem dJ0_min_1 : decode cJ0_min 1 = .ok (.iload_n 1, 1) := by decide +kernel
theorem dJ0_min_2 : decode cJ0_min 2 = .ok (.if_icmp .gt 7, 3) := by decide +kernel
theorem dJ0_min_5 : decode cJ0_min 5 = .ok (.iload_n 0, 1) := by decide +kernel
theorem dJ0_min_6 : decode cJ0_min 6 = .ok (.goto 4, 3) := by decide +kernel
theorem dJ0_min_9 : decode cJ0_min 9 = .ok (.iload_n 1, 1) := by decide +kernel
theorem dJ0_min_10 : decode cJ0_min 10 = .ok (.ireturn, 1) := by decide +kernel
theorem q12 : (Jvm.Cond.initialized "java/lang/Math") ∈ lw_all := lw_g (lw_at lw_m0 4 rfl) rfl
theorem q76 : (Jvm.Cond.static ({ cls := "java/lang/Math", name := "min", desc := "(II)I" } : Jvm.MethodName)) ∈ lw_all := lw_g (lw_at lw_m0 68 rfl) rfl
theorem q77 : (Jvm.Cond.code ({ cls := "java/lang/Math", name := "min", desc := "(II)I" } : Jvm.MethodName) prog_5_method_69_code (2 : Nat) (Option.some Jvm.ClassFile.FieldType.int)) ∈ lw_all := lw_g (lw_at lw_m0 69 rfl) rfl
/-! java/lang/Object -/
set_option maxRecDepth 100000
def RJ1 : String := "java/lang/Object"
abbrev cJ1_init : ByteArray := object_method_1_code
def yJ1_init : MethodName := ⟨RJ1, "<init>", "()V"⟩
theorem dJ1_init_0 : decode cJ1_init 0 = .ok (.return_, 1) := by decide +kernel
theorem q19 : (Jvm.Cond.instanceMethod ({ cls := "java/lang/Object", name := "<init>", desc := "()V" } : Jvm.MethodName)) ∈ lw_all := lw_g (lw_at lw_m0 11 rfl) rfl
theorem q20 : (Jvm.Cond.code ({ cls := "java/lang/Object", name := "<init>", desc := "()V" } : Jvm.MethodName) object_method_1_code (1 : Nat) (Option.none : Option Jvm.ClassFile.FieldType)) ∈ lw_all := lw_g (lw_at lw_m0 12 rfl) rfl
theorem q8 : (Jvm.Cond.initialized "RotationSortLaw") ∈ lw_all := lw_g (lw_at lw_m0 0 rfl) rfl
set_option maxRecDepth 100000
theorem q13 : (Jvm.Cond.classLink "RotationSortLaw" (7 : Nat) "RotationSort") ∈ lw_all := lw_g (lw_at lw_m0 5 rfl) rfl
theorem q15 : (Jvm.Cond.methodLink "RotationSortLaw" (9 : Nat) ({ cls := "RotationSort", name := "<init>", desc := "()V" } : Jvm.MethodName)) ∈ lw_all := lw_g (lw_at lw_m0 7 rfl) rfl
theorem q66 : (Jvm.Cond.methodLink "RotationSortLaw" (13 : Nat) ({ cls := "RotationSort", name := "put", desc := "(IIII)I" } : Jvm.MethodName)) ∈ lw_all := lw_g (lw_at lw_m0 58 rfl) rfl
theorem q70 : (Jvm.Cond.methodLink "RotationSortLaw" (18 : Nat) ({ cls := "RotationSort", name := "repeat", desc := "(II)I" } : Jvm.MethodName)) ∈ lw_all := lw_g (lw_at lw_m0 62 rfl) rfl
theorem q78 : (Jvm.Cond.methodLink "RotationSortLaw" (23 : Nat) ({ cls := "RotationSort", name := "turn", desc := "()Z" } : Jvm.MethodName)) ∈ lw_all := lw_g (lw_at lw_m0 70 rfl) rfl
theorem q121 : (Jvm.Cond.methodLink "RotationSortLaw" (28 : Nat) ({ cls := "RotationSort", name := "at", desc := "(I)I" } : Jvm.MethodName)) ∈ lw_all := lw_g (lw_at lw_m0 113 rfl) rfl
theorem q125 : (Jvm.Cond.methodLink "RotationSortLaw" (33 : Nat) ({ cls := "RotationSort", name := "back", desc := "(I)I" } : Jvm.MethodName)) ∈ lw_all := lw_g (lw_at lw_m0 117 rfl) rfl
theorem q129 : (Jvm.Cond.methodLink "RotationSortLaw" (37 : Nat) ({ cls := "RotationSort", name := "clear", desc := "()V" } : Jvm.MethodName)) ∈ lw_all := lw_g (lw_at lw_m0 121 rfl) rfl
theorem q133 : (Jvm.Cond.classLink "RotationSortLaw" (10 : Nat) "RotationSortModel") ∈ lw_all := lw_g (lw_at lw_m0 125 rfl) rfl
theorem q135 : (Jvm.Cond.methodLink "RotationSortLaw" (12 : Nat) ({ cls := "RotationSortModel", name := "<init>", desc := "()V" } : Jvm.MethodName)) ∈ lw_all := lw_g (lw_at lw_m0 127 rfl) rfl
theorem q158 : (Jvm.Cond.methodLink "RotationSortLaw" (17 : Nat) ({ cls := "RotationSortModel", name := "put", desc := "(IIII)I" } : Jvm.MethodName)) ∈ lw_all := lw_g (lw_at lw_m0 150 rfl) rfl
theorem q162 : (Jvm.Cond.methodLink "RotationSortLaw" (22 : Nat) ({ cls := "RotationSortModel", name := "repeat", desc := "(II)I" } : Jvm.MethodName)) ∈ lw_all := lw_g (lw_at lw_m0 154 rfl) rfl
theorem q167 : (Jvm.Cond.methodLink "RotationSortLaw" (27 : Nat) ({ cls := "RotationSortModel", name := "turn", desc := "()Z" } : Jvm.MethodName)) ∈ lw_all := lw_g (lw_at lw_m0 159 rfl) rfl
theorem q175 : (Jvm.Cond.methodLink "RotationSortLaw" (32 : Nat) ({ cls := "RotationSortModel", name := "at", desc := "(I)I" } : Jvm.MethodName)) ∈ lw_all := lw_g (lw_at lw_m0 167 rfl) rfl
theorem q179 : (Jvm.Cond.methodLink "RotationSortLaw" (36 : Nat) ({ cls := "RotationSortModel", name := "back", desc := "(I)I" } : Jvm.MethodName)) ∈ lw_all := lw_g (lw_at lw_m0 171 rfl) rfl
theorem q183 : (Jvm.Cond.methodLink "RotationSortLaw" (40 : Nat) ({ cls := "RotationSortModel", name := "clear", desc := "()V" } : Jvm.MethodName)) ∈ lw_all := lw_g (lw_at lw_m0 175 rfl) rfl
theorem q31 : (Jvm.Cond.arrayClass Jvm.ClassFile.FieldType.int) ∈ lw_all := lw_g (lw_at lw_m0 23 rfl) rfl
set_option maxRecDepth 100000
/-! the law's own entry -/
set_option maxRecDepth 100000
abbrev cL_law : ByteArray := code
theorem dL_law_0 : decode cL_law 0 = .ok (.new 7, 3) := by decide +kernel
theorem dL_law_3 : decode cL_law 3 = .ok (.dup, 1) := by decide +kernel
theorem dL_law_4 : decode cL_law 4 = .ok (.invokespecial 9, 3) := by decide +kernel
theorem dL_law_7 : decode cL_law 7 = .ok (.astore_n 1, 1) := by decide +kernel
theorem dL_law_8 : decode cL_law 8 = .ok (.new 10, 3) := by decide +kernel
theorem dL_law_11 : decode cL_law 11 = .ok (.dup, 1) := by decide +kernel
theorem dL_law_12 : decode cL_law 12 = .ok (.invokespecial 12, 3) := by decide +kernel
theorem dL_law_15 : decode cL_law 15 = .ok (.astore_n 2, 1) := by decide +kernel
theorem dL_law_16 : decode cL_law 16 = .ok (.iconst 0, 1) := by decide +kernel
theorem dL_law_17 : decode cL_law 17 = .ok (.istore_n 3, 1) := by decide +kernel
theorem dL_law_18 : decode cL_law 18 = .ok (.iload_n 3, 1) := by decide +kernel
theorem dL_law_19 : decode cL_law 19 = .ok (.aload_n 0, 1) := by decide +kernel
theorem dL_law_20 : decode cL_law 20 = .ok (.arraylength, 1) := by decide +kernel
theorem dL_law_21 : decode cL_law 21 = .ok (.iconst 5, 1) := by decide +kernel
theorem dL_law_22 : decode cL_law 22 = .ok (.isub, 1) := by decide +kernel
theorem dL_law_23 : decode cL_law 23 = .ok (.if_icmp .gt 211, 3) := by decide +kernel
theorem dL_law_26 : decode cL_law 26 = .ok (.aload_n 0, 1) := by decide +kernel
theorem dL_law_27 : decode cL_law 27 = .ok (.iload_n 3, 1) := by decide +kernel
theorem dL_law_28 : decode cL_law 28 = .ok (.iaload, 1) := by decide +kernel
theorem dL_law_29 : decode cL_law 29 = .ok (.bipush 7, 2) := by decide +kernel
theorem dL_law_31 : decode cL_law 31 = .ok (.iand, 1) := by decide +kernel
theorem dL_law_32 : decode cL_law 32 = .ok (.tableswitch 196 0 5 #[40, 93, 126, 139, 162, 185], 40) := by decide +kernel
theorem dL_law_72 : decode cL_law 72 = .ok (.aload_n 1, 1) := by decide +kernel
theorem dL_law_73 : decode cL_law 73 = .ok (.aload_n 0, 1) := by decide +kernel
theorem dL_law_74 : decode cL_law 74 = .ok (.iload_n 3, 1) := by decide +kernel
theorem dL_law_75 : decode cL_law 75 = .ok (.iconst 1, 1) := by decide +kernel
theorem dL_law_76 : decode cL_law 76 = .ok (.iadd, 1) := by decide +kernel
theorem dL_law_77 : decode cL_law 77 = .ok (.iaload, 1) := by decide +kernel
theorem dL_law_78 : decode cL_law 78 = .ok (.aload_n 0, 1) := by decide +kernel
theorem dL_law_79 : decode cL_law 79 = .ok (.iload_n 3, 1) := by decide +kernel
theorem dL_law_80 : decode cL_law 80 = .ok (.iconst 2, 1) := by decide +kernel
theorem dL_law_81 : decode cL_law 81 = .ok (.iadd, 1) := by decide +kernel
theorem dL_law_82 : decode cL_law 82 = .ok (.iaload, 1) := by decide +kernel
theorem dL_law_83 : decode cL_law 83 = .ok (.aload_n 0, 1) := by decide +kernel
theorem dL_law_84 : decode cL_law 84 = .ok (.iload_n 3, 1) := by decide +kernel
theorem dL_law_85 : decode cL_law 85 = .ok (.iconst 3, 1) := by decide +kernel
theorem dL_law_86 : decode cL_law 86 = .ok (.iadd, 1) := by decide +kernel
theorem dL_law_87 : decode cL_law 87 = .ok (.iaload, 1) := by decide +kernel
theorem dL_law_88 : decode cL_law 88 = .ok (.aload_n 0, 1) := by decide +kernel
theorem dL_law_89 : decode cL_law 89 = .ok (.iload_n 3, 1) := by decide +kernel
theorem dL_law_90 : decode cL_law 90 = .ok (.iconst 4, 1) := by decide +kernel
theorem dL_law_91 : decode cL_law 91 = .ok (.iadd, 1) := by decide +kernel
theorem dL_law_92 : decode cL_law 92 = .ok (.iaload, 1) := by decide +kernel
theorem dL_law_93 : decode cL_law 93 = .ok (.invokevirtual 13, 3) := by decide +kernel
theorem dL_law_96 : decode cL_law 96 = .ok (.aload_n 2, 1) := by decide +kernel
theorem dL_law_97 : decode cL_law 97 = .ok (.aload_n 0, 1) := by decide +kernel
theorem dL_law_98 : decode cL_law 98 = .ok (.iload_n 3, 1) := by decide +kernel
theorem dL_law_99 : decode cL_law 99 = .ok (.iconst 1, 1) := by decide +kernel
theorem dL_law_100 : decode cL_law 100 = .ok (.iadd, 1) := by decide +kernel
theorem dL_law_101 : decode cL_law 101 = .ok (.iaload, 1) := by decide +kernel
theorem dL_law_102 : decode cL_law 102 = .ok (.aload_n 0, 1) := by decide +kernel
theorem dL_law_103 : decode cL_law 103 = .ok (.iload_n 3, 1) := by decide +kernel
theorem dL_law_104 : decode cL_law 104 = .ok (.iconst 2, 1) := by decide +kernel
theorem dL_law_105 : decode cL_law 105 = .ok (.iadd, 1) := by decide +kernel
theorem dL_law_106 : decode cL_law 106 = .ok (.iaload, 1) := by decide +kernel
theorem dL_law_107 : decode cL_law 107 = .ok (.aload_n 0, 1) := by decide +kernel
theorem dL_law_108 : decode cL_law 108 = .ok (.iload_n 3, 1) := by decide +kernel
theorem dL_law_109 : decode cL_law 109 = .ok (.iconst 3, 1) := by decide +kernel
theorem dL_law_110 : decode cL_law 110 = .ok (.iadd, 1) := by decide +kernel
theorem dL_law_111 : decode cL_law 111 = .ok (.iaload, 1) := by decide +kernel
theorem dL_law_112 : decode cL_law 112 = .ok (.aload_n 0, 1) := by decide +kernel
theorem dL_law_113 : decode cL_law 113 = .ok (.iload_n 3, 1) := by decide +kernel
theorem dL_law_114 : decode cL_law 114 = .ok (.iconst 4, 1) := by decide +kernel
theorem dL_law_115 : decode cL_law 115 = .ok (.iadd, 1) := by decide +kernel
theorem dL_law_116 : decode cL_law 116 = .ok (.iaload, 1) := by decide +kernel
theorem dL_law_117 : decode cL_law 117 = .ok (.invokevirtual 17, 3) := by decide +kernel
theorem dL_law_120 : decode cL_law 120 = .ok (.if_icmp .eq 108, 3) := by decide +kernel
theorem dL_law_123 : decode cL_law 123 = .ok (.iconst 0, 1) := by decide +kernel
theorem dL_law_124 : decode cL_law 124 = .ok (.ireturn, 1) := by decide +kernel
theorem dL_law_125 : decode cL_law 125 = .ok (.aload_n 1, 1) := by decide +kernel
theorem dL_law_126 : decode cL_law 126 = .ok (.aload_n 0, 1) := by decide +kernel
theorem dL_law_127 : decode cL_law 127 = .ok (.iload_n 3, 1) := by decide +kernel
theorem dL_law_128 : decode cL_law 128 = .ok (.iconst 1, 1) := by decide +kernel
theorem dL_law_129 : decode cL_law 129 = .ok (.iadd, 1) := by decide +kernel
theorem dL_law_130 : decode cL_law 130 = .ok (.iaload, 1) := by decide +kernel
theorem dL_law_131 : decode cL_law 131 = .ok (.aload_n 0, 1) := by decide +kernel
theorem dL_law_132 : decode cL_law 132 = .ok (.iload_n 3, 1) := by decide +kernel
theorem dL_law_133 : decode cL_law 133 = .ok (.iconst 2, 1) := by decide +kernel
theorem dL_law_134 : decode cL_law 134 = .ok (.iadd, 1) := by decide +kernel
theorem dL_law_135 : decode cL_law 135 = .ok (.iaload, 1) := by decide +kernel
theorem dL_law_136 : decode cL_law 136 = .ok (.invokevirtual 18, 3) := by decide +kernel
theorem dL_law_139 : decode cL_law 139 = .ok (.aload_n 2, 1) := by decide +kernel
theorem dL_law_140 : decode cL_law 140 = .ok (.aload_n 0, 1) := by decide +kernel
theorem dL_law_141 : decode cL_law 141 = .ok (.iload_n 3, 1) := by decide +kernel
theorem dL_law_142 : decode cL_law 142 = .ok (.iconst 1, 1) := by decide +kernel
theorem dL_law_143 : decode cL_law 143 = .ok (.iadd, 1) := by decide +kernel
theorem dL_law_144 : decode cL_law 144 = .ok (.iaload, 1) := by decide +kernel
theorem dL_law_145 : decode cL_law 145 = .ok (.aload_n 0, 1) := by decide +kernel
theorem dL_law_146 : decode cL_law 146 = .ok (.iload_n 3, 1) := by decide +kernel
theorem dL_law_147 : decode cL_law 147 = .ok (.iconst 2, 1) := by decide +kernel
theorem dL_law_148 : decode cL_law 148 = .ok (.iadd, 1) := by decide +kernel
theorem dL_law_149 : decode cL_law 149 = .ok (.iaload, 1) := by decide +kernel
theorem dL_law_150 : decode cL_law 150 = .ok (.invokevirtual 22, 3) := by decide +kernel
theorem dL_law_153 : decode cL_law 153 = .ok (.if_icmp .eq 75, 3) := by decide +kernel
theorem dL_law_156 : decode cL_law 156 = .ok (.iconst 0, 1) := by decide +kernel
theorem dL_law_157 : decode cL_law 157 = .ok (.ireturn, 1) := by decide +kernel
theorem dL_law_158 : decode cL_law 158 = .ok (.aload_n 1, 1) := by decide +kernel
theorem dL_law_159 : decode cL_law 159 = .ok (.invokevirtual 23, 3) := by decide +kernel
theorem dL_law_162 : decode cL_law 162 = .ok (.aload_n 2, 1) := by decide +kernel
theorem dL_law_163 : decode cL_law 163 = .ok (.invokevirtual 27, 3) := by decide +kernel
theorem dL_law_166 : decode cL_law 166 = .ok (.if_icmp .eq 62, 3) := by decide +kernel
theorem dL_law_169 : decode cL_law 169 = .ok (.iconst 0, 1) := by decide +kernel
theorem dL_law_170 : decode cL_law 170 = .ok (.ireturn, 1) := by decide +kernel
theorem dL_law_171 : decode cL_law 171 = .ok (.aload_n 1, 1) := by decide +kernel
theorem dL_law_172 : decode cL_law 172 = .ok (.aload_n 0, 1) := by decide +kernel
theorem dL_law_173 : decode cL_law 173 = .ok (.iload_n 3, 1) := by decide +kernel
theorem dL_law_174 : decode cL_law 174 = .ok (.iconst 1, 1) := by decide +kernel
theorem dL_law_175 : decode cL_law 175 = .ok (.iadd, 1) := by decide +kernel
theorem dL_law_176 : decode cL_law 176 = .ok (.iaload, 1) := by decide +kernel
theorem dL_law_177 : decode cL_law 177 = .ok (.invokevirtual 28, 3) := by decide +kernel
theorem dL_law_180 : decode cL_law 180 = .ok (.aload_n 2, 1) := by decide +kernel
theorem dL_law_181 : decode cL_law 181 = .ok (.aload_n 0, 1) := by decide +kernel
theorem dL_law_182 : decode cL_law 182 = .ok (.iload_n 3, 1) := by decide +kernel
theorem dL_law_183 : decode cL_law 183 = .ok (.iconst 1, 1) := by decide +kernel
theorem dL_law_184 : decode cL_law 184 = .ok (.iadd, 1) := by decide +kernel
theorem dL_law_185 : decode cL_law 185 = .ok (.iaload, 1) := by decide +kernel
theorem dL_law_186 : decode cL_law 186 = .ok (.invokevirtual 32, 3) := by decide +kernel
theorem dL_law_189 : decode cL_law 189 = .ok (.if_icmp .eq 39, 3) := by decide +kernel
theorem dL_law_192 : decode cL_law 192 = .ok (.iconst 0, 1) := by decide +kernel
theorem dL_law_193 : decode cL_law 193 = .ok (.ireturn, 1) := by decide +kernel
theorem dL_law_194 : decode cL_law 194 = .ok (.aload_n 1, 1) := by decide +kernel
theorem dL_law_195 : decode cL_law 195 = .ok (.aload_n 0, 1) := by decide +kernel
theorem dL_law_196 : decode cL_law 196 = .ok (.iload_n 3, 1) := by decide +kernel
theorem dL_law_197 : decode cL_law 197 = .ok (.iconst 1, 1) := by decide +kernel
theorem dL_law_198 : decode cL_law 198 = .ok (.iadd, 1) := by decide +kernel
theorem dL_law_199 : decode cL_law 199 = .ok (.iaload, 1) := by decide +kernel
theorem dL_law_200 : decode cL_law 200 = .ok (.invokevirtual 33, 3) := by decide +kernel
theorem dL_law_203 : decode cL_law 203 = .ok (.aload_n 2, 1) := by decide +kernel
theorem dL_law_204 : decode cL_law 204 = .ok (.aload_n 0, 1) := by decide +kernel
theorem dL_law_205 : decode cL_law 205 = .ok (.iload_n 3, 1) := by decide +kernel
theorem dL_law_206 : decode cL_law 206 = .ok (.iconst 1, 1) := by decide +kernel
theorem dL_law_207 : decode cL_law 207 = .ok (.iadd, 1) := by decide +kernel
theorem dL_law_208 : decode cL_law 208 = .ok (.iaload, 1) := by decide +kernel
theorem dL_law_209 : decode cL_law 209 = .ok (.invokevirtual 36, 3) := by decide +kernel
theorem dL_law_212 : decode cL_law 212 = .ok (.if_icmp .eq 16, 3) := by decide +kernel
theorem dL_law_215 : decode cL_law 215 = .ok (.iconst 0, 1) := by decide +kernel
theorem dL_law_216 : decode cL_law 216 = .ok (.ireturn, 1) := by decide +kernel
theorem dL_law_217 : decode cL_law 217 = .ok (.aload_n 1, 1) := by decide +kernel
theorem dL_law_218 : decode cL_law 218 = .ok (.invokevirtual 37, 3) := by decide +kernel
theorem dL_law_221 : decode cL_law 221 = .ok (.aload_n 2, 1) := by decide +kernel
theorem dL_law_222 : decode cL_law 222 = .ok (.invokevirtual 40, 3) := by decide +kernel
theorem dL_law_225 : decode cL_law 225 = .ok (.goto 3, 3) := by decide +kernel
theorem dL_law_228 : decode cL_law 228 = .ok (.iinc 3 5, 3) := by decide +kernel
theorem dL_law_231 : decode cL_law 231 = .ok (.goto (-213), 3) := by decide +kernel
theorem dL_law_234 : decode cL_law 234 = .ok (.iconst 1, 1) := by decide +kernel
theorem dL_law_235 : decode cL_law 235 = .ok (.ireturn, 1) := by decide +kernel
end
section
/-! A judgement of our own over W: the world, the listed locals and the stack stand in it; the heap doesn't -/
abbrev vwCl : List vw_C := [(RX0, TX0, 11), (RX1, TX1, 1), (RX2, TX2, 6)]
abbrev MC : Type := Program × Launch × Env × Room × State × MethodId × Array Value × List Frame × Method × Code
abbrev mP (M : MC) : Program := M.1
abbrev mL (M : MC) : Launch := M.2.1
abbrev mE (M : MC) : Env := M.2.2.1
abbrev mR (M : MC) : Room := M.2.2.2.1
abbrev mS (M : MC) : State := M.2.2.2.2.1
abbrev mM (M : MC) : MethodId := M.2.2.2.2.2.1
abbrev mA (M : MC) : Array Value := M.2.2.2.2.2.2.1
abbrev mB (M : MC) : List Frame := M.2.2.2.2.2.2.2.1
abbrev mT (M : MC) : Method := M.2.2.2.2.2.2.2.2.1
abbrev mC (M : MC) : Code := M.2.2.2.2.2.2.2.2.2
/-- an array of ints that are numbers -/
abbrev ar (d : ClassId) (n : Nat) (g : Nat → Nat) : va_E := .inl (d, n, .inl (fun j => nI (g j)))
/-- an array of any ints -/
abbrev ai (d : ClassId) (n : Nat) (g : Nat → Int32) : va_E := .inl (d, n, .inl g)
def upN (g : Nat → Nat) (k v : Nat) : Nat → Nat := fun j => if j = k then v else g j
theorem upN_same (g : Nat → Nat) (k v : Nat) : upN g k v k = v := if_pos rfl
theorem upN_ne {g : Nat → Nat} {k v j : Nat} (h : j ≠ k) : upN g k v j = g j := if_neg h
theorem upN_upd (g : Nat → Nat) (k v : Nat) : upd (fun j => nI (g j)) k (nI v) = fun j => nI (upN g k v j) := by
  funext j
  simp only [upd, upN]
  split <;> rfl
def WW (M : MC) (D : va_G) (A : Nat → Prop) (nL : Nat) (Q : State → Prop) (ws : va_W) (cells slots pc : Nat) (lv : List (Nat × Value)) (st : List Value) : Prop :=
  ∀ (H : Heap) (locs : List Loc) (ls : Array Slot), va_P D vwCl ws H → va_D A ws → va_S A (mS M).heap H locs → lv_has ls nL lv → W (mP M) (mL M) (mE M) (mR M) (mS M) (mM M) (mA M) (mB M) (mT M) (mC M) H locs cells slots Q (F0 (mM M) pc ls st)
/-- the nest mate's link, which rides in no list -/
def NW (U : State) : Prop := va_Nw (.methodLinkNest RX0 21 yX1_init RX0) U
/-- what holds all through a method's run -/
def FX (M : MC) (l : Launch) (D : va_G) (dA : ClassId) (A : Nat → Prop) (cc : ByteArray) (nL : Nat) (own : String) (rt : Option FieldType) (rm : Room) : Prop :=
  (mP M).tables.exec = Jvm.exec ∧ (mC M).code = cc ∧ (mC M).maxLocals = nL ∧ (mS M).vm.findClass own = some (mM M).cls ∧ (∀ w ∈ lw_all, w.before (mA M) (mS M) = true) ∧ va_K D vwCl [(dA, .int)] (mS M) ∧ (∀ q, (mS M).heap.size ≤ q → A q) ∧ (mT M).sig.returnType = rt ∧ (mT M).locks = false ∧ mR M = rm ∧ mL M = l ∧ NW (mS M)
def WD (D : va_G) (dA : ClassId) (A : Nat → Prop) (ws : va_W) (t : State) : Prop := va_P D vwCl ws t.heap ∧ va_K D vwCl [(dA, .int)] t ∧ va_D A ws
def PC (D : va_G) (dA : ClassId) (av : List Value) (ws : va_W) (sz : Nat) : Array Value → State → Prop := va_Pc av (fun U => U.heap.size = sz ∧ va_P D vwCl ws U.heap ∧ va_K D vwCl [(dA, .int)] U ∧ va_D (fun _ => True) ws ∧ NW U)
/-- a method's contract: it answers an int -/
def CTI (l : Launch) (D : va_G) (dA : ClassId) (y : MethodName) (b : ByteArray) (L : Nat) (rt : FieldType) (rm : Room) (av : List Value) (ws : va_W) {S : Type} (post : Int32 → S → Prop) (ws' : S → va_W) : Prop :=
  ∀ sz : Nat, Met l y (ws_ y b L (some rt)) rm (PC D dA av ws sz) (va_Qi post (fun u t => WD D dA (va_A ws sz) (ws' u) t) (va_A ws sz)) rm.cells rm.slots (va_A ws sz)
/-- a method's contract: it answers nothing -/
def CTV (l : Launch) (D : va_G) (dA : ClassId) (y : MethodName) (b : ByteArray) (L : Nat) (rm : Room) (av : List Value) (ws : va_W) {S : Type} (post : S → Prop) (ws' : S → va_W) : Prop :=
  ∀ sz : Nat, Met l y (ws_ y b L none) rm (PC D dA av ws sz) (va_Qv post (fun u t => WD D dA (va_A ws sz) (ws' u) t) (va_A ws sz)) rm.cells rm.slots (va_A ws sz)
def QI (M : MC) (D : va_G) (dA : ClassId) (A : Nat → Prop) (rm : Room) {S : Type} (post : Int32 → S → Prop) (ws' : S → va_W) : State → Prop :=
  MQ (mB M) (va_Qi post (fun u t => WD D dA A (ws' u) t) A) (mA M) (mS M) rm.cells rm.slots A
def QV (M : MC) (D : va_G) (dA : ClassId) (A : Nat → Prop) (rm : Room) {S : Type} (post : S → Prop) (ws' : S → va_W) : State → Prop :=
  MQ (mB M) (va_Qv post (fun u t => WD D dA A (ws' u) t) A) (mA M) (mS M) rm.cells rm.slots A
theorem va_P.subM {D : va_G} {cl : List vw_C} {ws ws' : va_W} {H : Heap} (h : va_P D cl ws H) (is : List Nat) (hs : is.map (fun i => ws[i]?) = ws'.map some) : va_P D cl ws' H := by
  intro k q hk
  have h1 : (is.map (fun i => ws[i]?))[k]? = some (some q) := by rw [hs, List.getElem?_map, hk]; rfl
  rw [List.getElem?_map] at h1
  cases hi : is[k]? with
  | none => rw [hi] at h1; cases h1
  | some i => rw [hi] at h1; exact h i q (Option.some.inj h1)
theorem CTI.intro {l : Launch} {D : va_G} {dA : ClassId} {y : MethodName} {b : ByteArray} {L : Nat} {rt : FieldType} {rm : Room} {av : List Value} {ws : va_W} {S : Type} {post : Int32 → S → Prop} {ws' : S → va_W} (hy : plainName y.cls = true) (hL : (lg_sl av).length ≤ L)
    (body : ∀ (M : MC) (A : Nat → Prop), FX M l D dA A b L y.cls (some rt) rm → WW M D A L (QI M D dA A rm post ws') ws 0 0 0 (lv_args 0 av) []) : CTI l D dA y b L rt rm av ws post ws' := by
  intro sz
  refine Met.ofW (cc := b) (maxL := L) (ret := some rt) hy rfl ?_
  intro p e s m args below meth c s₁ B hml hv
  obtain ⟨rfl, hsz, hP, hK, hD0, hNW⟩ := hv
  have hts := atoms_spec (ws := ws_ y b L (some rt)) B.pre
  have hts : ∀ w ∈ lw_all, w.before _ s = true := fun w h => hts w (List.mem_cons_of_mem _ h)
  subst hsz
  have hD := hD0.self (sz := s.heap.size)
  rw [lg_entry_eq]
  exact body (p, l, e, rm, s, m, av.toArray, below, meth, c) (va_A ws s.heap.size) ⟨B.exec, B.bytes, hml, findClass_of_methodNamed B.named, hts, hK, fun q h => Or.inr h, B.returns, B.notSynchronized, rfl, rfl, hNW⟩ s.heap [] _ hP hD va_S.rf (lv_entry av hL)
theorem CTV.intro {l : Launch} {D : va_G} {dA : ClassId} {y : MethodName} {b : ByteArray} {L : Nat} {rm : Room} {av : List Value} {ws : va_W} {S : Type} {post : S → Prop} {ws' : S → va_W} (hy : plainName y.cls = true) (hL : (lg_sl av).length ≤ L)
    (body : ∀ (M : MC) (A : Nat → Prop), FX M l D dA A b L y.cls none rm → (mT M).name = y.name → WW M D A L (QV M D dA A rm post ws') ws 0 0 0 (lv_args 0 av) []) : CTV l D dA y b L rm av ws post ws' := by
  intro sz
  refine Met.ofW (cc := b) (maxL := L) (ret := none) hy rfl ?_
  intro p e s m args below meth c s₁ B hml hv
  obtain ⟨rfl, hsz, hP, hK, hD0, hNW⟩ := hv
  have hts := atoms_spec (ws := ws_ y b L none) B.pre
  have hts : ∀ w ∈ lw_all, w.before _ s = true := fun w h => hts w (List.mem_cons_of_mem _ h)
  subst hsz
  have hD := hD0.self (sz := s.heap.size)
  rw [lg_entry_eq]
  exact body (p, l, e, rm, s, m, av.toArray, below, meth, c) (va_A ws s.heap.size) ⟨B.exec, B.bytes, hml, findClass_of_methodNamed B.named, hts, hK, fun q h => Or.inr h, B.returns, B.notSynchronized, rfl, rfl, hNW⟩ (name_of_methodNamed B.named B.method).1 s.heap [] _ hP hD va_S.rf (lv_entry av hL)
/-- the locals with a new value: in its place, or behind -/
def lvset (lv : List (Nat × Value)) (i : Nat) (v : Value) : List (Nat × Value) := match lv with
  | [] => [(i, v)]
  | q :: r => cond (Nat.beq q.1 i) ((i, v) :: r) (q :: lvset r i v)
def ndb : List Nat → Bool
  | [] => true
  | a :: l => l.all (fun b => !(Nat.beq a b)) && ndb l
def lvokb (lv : List (Nat × Value)) : Bool := ndb (lv.map Prod.fst) && lv.all (fun q => Nat.beq q.2.category 1)
theorem ndb_nd : ∀ (l : List Nat), ndb l = true → l.Nodup := by
  intro l
  induction l with
  | nil => intro _; exact List.nodup_nil
  | cons a l ih =>
    intro h
    simp only [ndb, Bool.and_eq_true, List.all_eq_true] at h
    refine List.nodup_cons.mpr ⟨fun hm => ?_, ih h.2⟩
    have := h.1 a hm
    simp at this
theorem lvset_mem {lv : List (Nat × Value)} {i : Nat} {v : Value} (q : Nat × Value) (h : q ∈ lvset lv i v) (hn : (lv.map Prod.fst).Nodup) : q = (i, v) ∨ (q ∈ lv ∧ q.1 ≠ i) := by
  induction lv with
  | nil => left; simpa [lvset] using h
  | cons a r ih =>
    rw [List.map_cons, List.nodup_cons] at hn
    unfold lvset at h
    cases hb : Nat.beq a.1 i with
    | true =>
      have ha : a.1 = i := Nat.eq_of_beq_eq_true hb
      rw [hb] at h
      have h : q ∈ (i, v) :: r := h
      rcases List.mem_cons.mp h with h | h
      · left; exact h
      · right
        refine ⟨List.mem_cons_of_mem _ h, fun e => hn.1 ?_⟩
        rw [ha, ← e]
        exact List.mem_map.mpr ⟨q, h, rfl⟩
    | false =>
      have ha : a.1 ≠ i := Nat.ne_of_beq_eq_false hb
      rw [hb] at h
      have h : q ∈ a :: lvset r i v := h
      rcases List.mem_cons.mp h with h | h
      · right
        rw [h]
        exact ⟨List.mem_cons_self, ha⟩
      · rcases ih h hn.2 with h | h
        · left; exact h
        · right; exact ⟨List.mem_cons_of_mem _ h.1, h.2⟩
theorem lvset_has {ls : Array Slot} {nL i : Nat} {v : Value} {lv : List (Nat × Value)} (hok : lvokb lv = true) (h : lv_has ls nL ((i, v) :: lv.filter (fun q => !(q.1 == i) && !(q.1 + 1 == i && q.2.category == 2)))) : lv_has ls nL (lvset lv i v) := by
  unfold lvokb at hok
  rw [Bool.and_eq_true, List.all_eq_true] at hok
  refine ⟨h.1, h.2.1, fun q hq => h.2.2 q ?_⟩
  rcases lvset_mem q hq (ndb_nd _ hok.1) with e | ⟨h1, h2⟩
  · rw [e]; exact List.mem_cons_self
  · refine List.mem_cons_of_mem _ (List.mem_filter.mpr ⟨h1, ?_⟩)
    have h3 := Nat.eq_of_beq_eq_true (hok.2 q h1)
    simp [h2, h3]
section ROWS
variable {M : MC} {l : Launch} {D : va_G} {dA : ClassId} {A : Nat → Prop} {cc : ByteArray} {nL : Nat} {own : String} {rt : Option FieldType} {rm : Room} {Q : State → Prop} {ws : va_W} {cells slots pc : Nat} {lv : List (Nat × Value)} {st : List Value}
theorem w_lsub {lv' : List (Nat × Value)} (ks : List Nat) (hl : lv_pick lv ks = lv') (kk : WW M D A nL Q ws cells slots pc lv' st) : WW M D A nL Q ws cells slots pc lv st :=
  fun H locs ls hP hD hS h => kk H locs ls hP hD hS (lv_sub h ks hl)
theorem w_wsub {ws' : va_W} (is : List Nat) (hs : is.map (fun i => ws[i]?) = ws'.map some) (hn : va_nd is = true) (kk : WW M D A nL Q ws' cells slots pc lv st) : WW M D A nL Q ws cells slots pc lv st :=
  fun H locs ls hP hD hS h => kk H locs ls (hP.subM is hs) (hD.sub is hn hs) hS h
theorem w_widen {k n : Nat} (h1 : cells ≤ k) (h2 : slots ≤ n) (kk : WW M D A nL Q ws k n pc lv st) : WW M D A nL Q ws cells slots pc lv st :=
  fun H locs ls hP hD hS h => W.widen h1 h2 (kk H locs ls hP hD hS h)
theorem w_iconst (F : FX M l D dA A cc nL own rt rm) {n : Int} (v : Int32) (hdg : decode cc pc = .ok (.iconst n, 1)) (hv : Int32.ofInt n = v) (kk : WW M D A nL Q ws cells slots (pc + 1) lv (.int v :: st)) : WW M D A nL Q ws cells slots pc lv st :=
  fun H locs ls hP hD hS h => lv_iconst F.1 F.2.1 hdg hv (kk H locs ls hP hD hS h)
theorem w_bipush (F : FX M l D dA A cc nL own rt rm) {n : Int} (v : Int32) (hdg : decode cc pc = .ok (.bipush n, 2)) (hv : (Int8.ofInt n).toInt32 = v) (kk : WW M D A nL Q ws cells slots (pc + 2) lv (.int v :: st)) : WW M D A nL Q ws cells slots pc lv st :=
  fun H locs ls hP hD hS h => lv_bipush F.1 F.2.1 hdg hv (kk H locs ls hP hD hS h)
theorem w_sipush (F : FX M l D dA A cc nL own rt rm) {n : Int} (v : Int32) (hdg : decode cc pc = .ok (.sipush n, 3)) (hv : (Int16.ofInt n).toInt32 = v) (kk : WW M D A nL Q ws cells slots (pc + 3) lv (.int v :: st)) : WW M D A nL Q ws cells slots pc lv st :=
  fun H locs ls hP hD hS h => lv_sipush F.1 F.2.1 hdg hv (kk H locs ls hP hD hS h)
theorem w_ldc (F : FX M l D dA A cc nL own rt rm) {index : Nat} {v : Int32} (hw : Jvm.Cond.constant own index v ∈ lw_all) (hdg : decode cc pc = .ok (.ldc index, 2)) (kk : WW M D A nL Q ws cells slots (pc + 2) lv (.int v :: st)) : WW M D A nL Q ws cells slots pc lv st :=
  fun H locs ls hP hD hS h => lv_ldc F.1 F.2.1 F.2.2.2.1 (F.2.2.2.2.1 _ hw) hdg (kk H locs ls hP hD hS h)
theorem w_iload_n (F : FX M l D dA A cc nL own rt rm) {k : Fin 4} (hdg : decode cc pc = .ok (.iload_n k, 1)) (j : Nat) {x : Int32} (hj : lv[j]? = some ((k : Nat), .int x)) (kk : WW M D A nL Q ws cells slots (pc + 1) lv (.int x :: st)) : WW M D A nL Q ws cells slots pc lv st :=
  fun H locs ls hP hD hS h => lv_iload_n F.1 F.2.1 hdg rfl (lv_at h j hj) (kk H locs ls hP hD hS h)
theorem w_iload (F : FX M l D dA A cc nL own rt rm) {i : Nat} (hdg : decode cc pc = .ok (.iload i, 2)) (j : Nat) {x : Int32} (hj : lv[j]? = some (i, .int x)) (kk : WW M D A nL Q ws cells slots (pc + 2) lv (.int x :: st)) : WW M D A nL Q ws cells slots pc lv st :=
  fun H locs ls hP hD hS h => lv_iload F.1 F.2.1 hdg (lv_at h j hj) (kk H locs ls hP hD hS h)
theorem w_aload_n (F : FX M l D dA A cc nL own rt rm) {k : Fin 4} (hdg : decode cc pc = .ok (.aload_n k, 1)) (j : Nat) {x : Nat} (hj : lv[j]? = some ((k : Nat), .ref x)) (kk : WW M D A nL Q ws cells slots (pc + 1) lv (.ref x :: st)) : WW M D A nL Q ws cells slots pc lv st :=
  fun H locs ls hP hD hS h => lv_aload_n F.1 F.2.1 hdg rfl (lv_at h j hj) (kk H locs ls hP hD hS h)
theorem w_aload (F : FX M l D dA A cc nL own rt rm) {i : Nat} (hdg : decode cc pc = .ok (.aload i, 2)) (j : Nat) {x : Nat} (hj : lv[j]? = some (i, .ref x)) (kk : WW M D A nL Q ws cells slots (pc + 2) lv (.ref x :: st)) : WW M D A nL Q ws cells slots pc lv st :=
  fun H locs ls hP hD hS h => lv_aload F.1 F.2.1 hdg (lv_at h j hj) (kk H locs ls hP hD hS h)
theorem w_istore_n (F : FX M l D dA A cc nL own rt rm) {k : Fin 4} {x : Int32} (lv' : List (Nat × Value)) (hdg : decode cc pc = .ok (.istore_n k, 1)) (hn : (k : Nat) < nL) (hok : lvokb lv = true) (hl : lvset lv (k : Nat) (.int x) = lv') (kk : WW M D A nL Q ws cells slots (pc + 1) lv' st) : WW M D A nL Q ws cells slots pc lv (.int x :: st) :=
  fun H locs ls hP hD hS h => lv_istore_n F.1 F.2.1 hdg rfl h hn rfl (fun ls' h' => kk H locs ls' hP hD hS (hl ▸ lvset_has hok h'))
theorem w_istore (F : FX M l D dA A cc nL own rt rm) {i : Nat} {x : Int32} (lv' : List (Nat × Value)) (hdg : decode cc pc = .ok (.istore i, 2)) (hn : i < nL) (hok : lvokb lv = true) (hl : lvset lv i (.int x) = lv') (kk : WW M D A nL Q ws cells slots (pc + 2) lv' st) : WW M D A nL Q ws cells slots pc lv (.int x :: st) :=
  fun H locs ls hP hD hS h => lv_istore F.1 F.2.1 hdg h hn rfl (fun ls' h' => kk H locs ls' hP hD hS (hl ▸ lvset_has hok h'))
theorem w_astore_n (F : FX M l D dA A cc nL own rt rm) {k : Fin 4} {x : Nat} (lv' : List (Nat × Value)) (hdg : decode cc pc = .ok (.astore_n k, 1)) (hn : (k : Nat) < nL) (hok : lvokb lv = true) (hl : lvset lv (k : Nat) (.ref x) = lv') (kk : WW M D A nL Q ws cells slots (pc + 1) lv' st) : WW M D A nL Q ws cells slots pc lv (.ref x :: st) :=
  fun H locs ls hP hD hS h => lv_astore_n F.1 F.2.1 hdg rfl h hn rfl (fun ls' h' => kk H locs ls' hP hD hS (hl ▸ lvset_has hok h'))
theorem w_astore (F : FX M l D dA A cc nL own rt rm) {i : Nat} {x : Nat} (lv' : List (Nat × Value)) (hdg : decode cc pc = .ok (.astore i, 2)) (hn : i < nL) (hok : lvokb lv = true) (hl : lvset lv i (.ref x) = lv') (kk : WW M D A nL Q ws cells slots (pc + 2) lv' st) : WW M D A nL Q ws cells slots pc lv (.ref x :: st) :=
  fun H locs ls hP hD hS h => lv_astore F.1 F.2.1 hdg h hn rfl (fun ls' h' => kk H locs ls' hP hD hS (hl ▸ lvset_has hok h'))
theorem w_iinc (F : FX M l D dA A cc nL own rt rm) {i : Nat} {n : Int} {x v : Int32} (lv' : List (Nat × Value)) (hdg : decode cc pc = .ok (.iinc i n, 3)) (j : Nat) (hj : lv[j]? = some (i, .int x)) (hv : x + Int32.ofInt n = v) (hn : i < nL) (hok : lvokb lv = true) (hl : lvset lv i (.int v) = lv') (kk : WW M D A nL Q ws cells slots (pc + 3) lv' st) : WW M D A nL Q ws cells slots pc lv st :=
  fun H locs ls hP hD hS h => lv_iinc F.1 F.2.1 hdg h hj hv hn rfl (fun ls' h' => kk H locs ls' hP hD hS (hl ▸ lvset_has hok h'))
theorem w_top {x y : Int32} (e : x = y) (kk : WW M D A nL Q ws cells slots pc lv (.int y :: st)) : WW M D A nL Q ws cells slots pc lv (.int x :: st) := e ▸ kk
theorem w_iadd (F : FX M l D dA A cc nL own rt rm) {a b : Nat} (hdg : decode cc pc = .ok (.iadd, 1)) (kk : WW M D A nL Q ws cells slots (pc + 1) lv (.int (nI (a + b)) :: st)) : WW M D A nL Q ws cells slots pc lv (.int (nI b) :: .int (nI a) :: st) :=
  fun H locs ls hP hD hS h => lv_iadd F.1 F.2.1 hdg (by rw [nI_add]; exact kk H locs ls hP hD hS h)
theorem w_iaddX (F : FX M l D dA A cc nL own rt rm) {x y : Int32} (hdg : decode cc pc = .ok (.iadd, 1)) (kk : WW M D A nL Q ws cells slots (pc + 1) lv (.int (x + y) :: st)) : WW M D A nL Q ws cells slots pc lv (.int y :: .int x :: st) :=
  fun H locs ls hP hD hS h => lv_iadd F.1 F.2.1 hdg (kk H locs ls hP hD hS h)
theorem w_isub (F : FX M l D dA A cc nL own rt rm) {a b : Nat} (hdg : decode cc pc = .ok (.isub, 1)) (hab : b ≤ a) (kk : WW M D A nL Q ws cells slots (pc + 1) lv (.int (nI (a - b)) :: st)) : WW M D A nL Q ws cells slots pc lv (.int (nI b) :: .int (nI a) :: st) :=
  fun H locs ls hP hD hS h => lv_isub F.1 F.2.1 hdg (by rw [pk_sub hab]; exact kk H locs ls hP hD hS h)
theorem w_isubX (F : FX M l D dA A cc nL own rt rm) {x y : Int32} (hdg : decode cc pc = .ok (.isub, 1)) (kk : WW M D A nL Q ws cells slots (pc + 1) lv (.int (x - y) :: st)) : WW M D A nL Q ws cells slots pc lv (.int y :: .int x :: st) :=
  fun H locs ls hP hD hS h => lv_isub F.1 F.2.1 hdg (kk H locs ls hP hD hS h)
theorem w_imul (F : FX M l D dA A cc nL own rt rm) {a b : Nat} (hdg : decode cc pc = .ok (.imul, 1)) (kk : WW M D A nL Q ws cells slots (pc + 1) lv (.int (nI (a * b)) :: st)) : WW M D A nL Q ws cells slots pc lv (.int (nI b) :: .int (nI a) :: st) :=
  fun H locs ls hP hD hS h => lv_imul F.1 F.2.1 hdg (by rw [pk_mul]; exact kk H locs ls hP hD hS h)
theorem w_idiv (F : FX M l D dA A cc nL own rt rm) {a b : Nat} (hdg : decode cc pc = .ok (.idiv, 1)) (ha : a < 2 ^ 31) (h0 : 0 < b) (hb : b < 2 ^ 31) (kk : WW M D A nL Q ws cells slots (pc + 1) lv (.int (nI (a / b)) :: st)) : WW M D A nL Q ws cells slots pc lv (.int (nI b) :: .int (nI a) :: st) :=
  fun H locs ls hP hD hS h => lv_idiv F.1 F.2.1 hdg (nI_ne0 h0 hb) (by rw [pk_div ha h0 hb]; exact kk H locs ls hP hD hS h)
theorem w_irem (F : FX M l D dA A cc nL own rt rm) {a b : Nat} (hdg : decode cc pc = .ok (.irem, 1)) (ha : a < 2 ^ 31) (h0 : 0 < b) (hb : b < 2 ^ 31) (kk : WW M D A nL Q ws cells slots (pc + 1) lv (.int (nI (a % b)) :: st)) : WW M D A nL Q ws cells slots pc lv (.int (nI b) :: .int (nI a) :: st) :=
  fun H locs ls hP hD hS h => lv_irem F.1 F.2.1 hdg (nI_ne0 h0 hb) (by rw [pk_rem ha h0 hb]; exact kk H locs ls hP hD hS h)
theorem w_iandX (F : FX M l D dA A cc nL own rt rm) {x y : Int32} (hdg : decode cc pc = .ok (.iand, 1)) (kk : WW M D A nL Q ws cells slots (pc + 1) lv (.int (x &&& y) :: st)) : WW M D A nL Q ws cells slots pc lv (.int y :: .int x :: st) :=
  fun H locs ls hP hD hS h => lv_iand F.1 F.2.1 hdg (kk H locs ls hP hD hS h)
theorem w_dup (F : FX M l D dA A cc nL own rt rm) {v : Value} (hdg : decode cc pc = .ok (.dup, 1)) (hv : v.category = 1) (kk : WW M D A nL Q ws cells slots (pc + 1) lv (v :: v :: st)) : WW M D A nL Q ws cells slots pc lv (v :: st) :=
  fun H locs ls hP hD hS h => lv_dup F.1 F.2.1 hdg hv (kk H locs ls hP hD hS h)
theorem w_dup2 (F : FX M l D dA A cc nL own rt rm) {v w : Value} (hdg : decode cc pc = .ok (.dup2, 1)) (hv : v.category = 1) (hw : w.category = 1) (kk : WW M D A nL Q ws cells slots (pc + 1) lv (v :: w :: v :: w :: st)) : WW M D A nL Q ws cells slots pc lv (v :: w :: st) :=
  fun H locs ls hP hD hS h => lv_dup2_11 F.1 F.2.1 hdg hv hw (kk H locs ls hP hD hS h)
theorem w_pop (F : FX M l D dA A cc nL own rt rm) {v : Value} (hdg : decode cc pc = .ok (.pop, 1)) (hv : v.category = 1) (kk : WW M D A nL Q ws cells slots (pc + 1) lv st) : WW M D A nL Q ws cells slots pc lv (v :: st) :=
  fun H locs ls hP hD hS h => lv_pop F.1 F.2.1 hdg hv (kk H locs ls hP hD hS h)
theorem w_goto (F : FX M l D dA A cc nL own rt rm) {off : Int} (tgt : Nat) (hdg : decode cc pc = .ok (.goto off, 3)) (ht : (pc : Int) + off = (tgt : Int)) (kk : WW M D A nL Q ws cells slots tgt lv st) : WW M D A nL Q ws cells slots pc lv st :=
  fun H locs ls hP hD hS h => lv_goto F.1 F.2.1 hdg ht (kk H locs ls hP hD hS h)
theorem w_icmp_ge (F : FX M l D dA A cc nL own rt rm) {a b : Nat} {off : Int} (tgt : Nat) (hdg : decode cc pc = .ok (.if_icmp .ge off, 3)) (ht : (pc : Int) + off = (tgt : Int)) (ha : a < 2 ^ 31) (hb : b < 2 ^ 31) (kt : b ≤ a → WW M D A nL Q ws cells slots tgt lv st) (kf : a < b → WW M D A nL Q ws cells slots (pc + 3) lv st) : WW M D A nL Q ws cells slots pc lv (.int (nI b) :: .int (nI a) :: st) :=
  fun H locs ls hP hD hS h => lv_icmp_ge F.1 F.2.1 hdg ht (fun c => kt ((nI_leI hb ha).mp c) H locs ls hP hD hS h) (fun c => kf (Nat.lt_of_not_le (fun z => c ((nI_leI hb ha).mpr z))) H locs ls hP hD hS h)
theorem w_icmp_gt (F : FX M l D dA A cc nL own rt rm) {a b : Nat} {off : Int} (tgt : Nat) (hdg : decode cc pc = .ok (.if_icmp .gt off, 3)) (ht : (pc : Int) + off = (tgt : Int)) (ha : a < 2 ^ 31) (hb : b < 2 ^ 31) (kt : b < a → WW M D A nL Q ws cells slots tgt lv st) (kf : a ≤ b → WW M D A nL Q ws cells slots (pc + 3) lv st) : WW M D A nL Q ws cells slots pc lv (.int (nI b) :: .int (nI a) :: st) :=
  fun H locs ls hP hD hS h => lv_icmp_gt F.1 F.2.1 hdg ht (fun c => kt ((nI_ltI hb ha).mp c) H locs ls hP hD hS h) (fun c => kf (Nat.le_of_not_lt (fun z => c ((nI_ltI hb ha).mpr z))) H locs ls hP hD hS h)
theorem w_icmp_lt (F : FX M l D dA A cc nL own rt rm) {a b : Nat} {off : Int} (tgt : Nat) (hdg : decode cc pc = .ok (.if_icmp .lt off, 3)) (ht : (pc : Int) + off = (tgt : Int)) (ha : a < 2 ^ 31) (hb : b < 2 ^ 31) (kt : a < b → WW M D A nL Q ws cells slots tgt lv st) (kf : b ≤ a → WW M D A nL Q ws cells slots (pc + 3) lv st) : WW M D A nL Q ws cells slots pc lv (.int (nI b) :: .int (nI a) :: st) :=
  fun H locs ls hP hD hS h => lv_icmp_lt F.1 F.2.1 hdg ht (fun c => kt ((nI_ltI ha hb).mp c) H locs ls hP hD hS h) (fun c => kf (Nat.le_of_not_lt (fun z => c ((nI_ltI ha hb).mpr z))) H locs ls hP hD hS h)
theorem w_icmp_le (F : FX M l D dA A cc nL own rt rm) {a b : Nat} {off : Int} (tgt : Nat) (hdg : decode cc pc = .ok (.if_icmp .le off, 3)) (ht : (pc : Int) + off = (tgt : Int)) (ha : a < 2 ^ 31) (hb : b < 2 ^ 31) (kt : a ≤ b → WW M D A nL Q ws cells slots tgt lv st) (kf : b < a → WW M D A nL Q ws cells slots (pc + 3) lv st) : WW M D A nL Q ws cells slots pc lv (.int (nI b) :: .int (nI a) :: st) :=
  fun H locs ls hP hD hS h => lv_icmp_le F.1 F.2.1 hdg ht (fun c => kt ((nI_leI ha hb).mp c) H locs ls hP hD hS h) (fun c => kf (Nat.lt_of_not_le (fun z => c ((nI_leI ha hb).mpr z))) H locs ls hP hD hS h)
theorem w_icmp_eq (F : FX M l D dA A cc nL own rt rm) {a b : Nat} {off : Int} (tgt : Nat) (hdg : decode cc pc = .ok (.if_icmp .eq off, 3)) (ht : (pc : Int) + off = (tgt : Int)) (ha : a < 2 ^ 31) (hb : b < 2 ^ 31) (kt : a = b → WW M D A nL Q ws cells slots tgt lv st) (kf : a ≠ b → WW M D A nL Q ws cells slots (pc + 3) lv st) : WW M D A nL Q ws cells slots pc lv (.int (nI b) :: .int (nI a) :: st) :=
  fun H locs ls hP hD hS h => lv_icmp_eq F.1 F.2.1 hdg ht (fun c => kt ((nI_eq ha hb).mp c) H locs ls hP hD hS h) (fun c => kf (fun z => c ((nI_eq ha hb).mpr z)) H locs ls hP hD hS h)
theorem w_icmp_ne (F : FX M l D dA A cc nL own rt rm) {a b : Nat} {off : Int} (tgt : Nat) (hdg : decode cc pc = .ok (.if_icmp .ne off, 3)) (ht : (pc : Int) + off = (tgt : Int)) (ha : a < 2 ^ 31) (hb : b < 2 ^ 31) (kt : a ≠ b → WW M D A nL Q ws cells slots tgt lv st) (kf : a = b → WW M D A nL Q ws cells slots (pc + 3) lv st) : WW M D A nL Q ws cells slots pc lv (.int (nI b) :: .int (nI a) :: st) :=
  fun H locs ls hP hD hS h => lv_icmp_ne F.1 F.2.1 hdg ht (fun c => kt (fun z => c ((nI_eq ha hb).mpr z)) H locs ls hP hD hS h) (fun c => kf ((nI_eq ha hb).mp c) H locs ls hP hD hS h)
theorem w_icmp_eqX (F : FX M l D dA A cc nL own rt rm) {x y : Int32} {off : Int} (tgt : Nat) (hdg : decode cc pc = .ok (.if_icmp .eq off, 3)) (ht : (pc : Int) + off = (tgt : Int)) (kt : x = y → WW M D A nL Q ws cells slots tgt lv st) (kf : ¬ x = y → WW M D A nL Q ws cells slots (pc + 3) lv st) : WW M D A nL Q ws cells slots pc lv (.int y :: .int x :: st) :=
  fun H locs ls hP hD hS h => lv_icmp_eq F.1 F.2.1 hdg ht (fun c => kt c H locs ls hP hD hS h) (fun c => kf c H locs ls hP hD hS h)
theorem w_icmp_neX (F : FX M l D dA A cc nL own rt rm) {x y : Int32} {off : Int} (tgt : Nat) (hdg : decode cc pc = .ok (.if_icmp .ne off, 3)) (ht : (pc : Int) + off = (tgt : Int)) (kt : ¬ x = y → WW M D A nL Q ws cells slots tgt lv st) (kf : x = y → WW M D A nL Q ws cells slots (pc + 3) lv st) : WW M D A nL Q ws cells slots pc lv (.int y :: .int x :: st) :=
  fun H locs ls hP hD hS h => lv_icmp_ne F.1 F.2.1 hdg ht (fun c => kt c H locs ls hP hD hS h) (fun c => kf c H locs ls hP hD hS h)
theorem w_if_eq (F : FX M l D dA A cc nL own rt rm) {a : Nat} {off : Int} (tgt : Nat) (hdg : decode cc pc = .ok (.ifCond .eq off, 3)) (ht : (pc : Int) + off = (tgt : Int)) (ha : a < 2 ^ 31) (kt : a = 0 → WW M D A nL Q ws cells slots tgt lv st) (kf : a ≠ 0 → WW M D A nL Q ws cells slots (pc + 3) lv st) : WW M D A nL Q ws cells slots pc lv (.int (nI a) :: st) :=
  fun H locs ls hP hD hS h => lv_if_eq F.1 F.2.1 hdg ht (fun c => kt ((nI_eq ha (by decide)).mp (c.trans nI_0.symm)) H locs ls hP hD hS h) (fun c => kf (fun z => c (by rw [z]; exact nI_0)) H locs ls hP hD hS h)
theorem w_if_ne (F : FX M l D dA A cc nL own rt rm) {a : Nat} {off : Int} (tgt : Nat) (hdg : decode cc pc = .ok (.ifCond .ne off, 3)) (ht : (pc : Int) + off = (tgt : Int)) (ha : a < 2 ^ 31) (kt : a ≠ 0 → WW M D A nL Q ws cells slots tgt lv st) (kf : a = 0 → WW M D A nL Q ws cells slots (pc + 3) lv st) : WW M D A nL Q ws cells slots pc lv (.int (nI a) :: st) :=
  fun H locs ls hP hD hS h => lv_if_ne F.1 F.2.1 hdg ht (fun c => kt (fun z => c (by rw [z]; exact nI_0)) H locs ls hP hD hS h) (fun c => kf ((nI_eq ha (by decide)).mp (c.trans nI_0.symm)) H locs ls hP hD hS h)
theorem w_if_ltX (F : FX M l D dA A cc nL own rt rm) {x : Int32} {off : Int} (tgt : Nat) (hdg : decode cc pc = .ok (.ifCond .lt off, 3)) (ht : (pc : Int) + off = (tgt : Int)) (kt : x < 0 → WW M D A nL Q ws cells slots tgt lv st) (kf : ¬ x < 0 → WW M D A nL Q ws cells slots (pc + 3) lv st) : WW M D A nL Q ws cells slots pc lv (.int x :: st) :=
  fun H locs ls hP hD hS h => lv_if_lt F.1 F.2.1 hdg ht (fun c => kt c H locs ls hP hD hS h) (fun c => kf c H locs ls hP hD hS h)
theorem w_if_leX (F : FX M l D dA A cc nL own rt rm) {x : Int32} {off : Int} (tgt : Nat) (hdg : decode cc pc = .ok (.ifCond .le off, 3)) (ht : (pc : Int) + off = (tgt : Int)) (kt : x ≤ 0 → WW M D A nL Q ws cells slots tgt lv st) (kf : ¬ x ≤ 0 → WW M D A nL Q ws cells slots (pc + 3) lv st) : WW M D A nL Q ws cells slots pc lv (.int x :: st) :=
  fun H locs ls hP hD hS h => lv_if_le F.1 F.2.1 hdg ht (fun c => kt c H locs ls hP hD hS h) (fun c => kf c H locs ls hP hD hS h)
theorem w_if_eqX (F : FX M l D dA A cc nL own rt rm) {x : Int32} {off : Int} (tgt : Nat) (hdg : decode cc pc = .ok (.ifCond .eq off, 3)) (ht : (pc : Int) + off = (tgt : Int)) (kt : x = 0 → WW M D A nL Q ws cells slots tgt lv st) (kf : ¬ x = 0 → WW M D A nL Q ws cells slots (pc + 3) lv st) : WW M D A nL Q ws cells slots pc lv (.int x :: st) :=
  fun H locs ls hP hD hS h => lv_if_eq F.1 F.2.1 hdg ht (fun c => kt c H locs ls hP hD hS h) (fun c => kf c H locs ls hP hD hS h)
theorem w_if_neX (F : FX M l D dA A cc nL own rt rm) {x : Int32} {off : Int} (tgt : Nat) (hdg : decode cc pc = .ok (.ifCond .ne off, 3)) (ht : (pc : Int) + off = (tgt : Int)) (kt : ¬ x = 0 → WW M D A nL Q ws cells slots tgt lv st) (kf : x = 0 → WW M D A nL Q ws cells slots (pc + 3) lv st) : WW M D A nL Q ws cells slots pc lv (.int x :: st) :=
  fun H locs ls hP hD hS h => lv_if_ne F.1 F.2.1 hdg ht (fun c => kt c H locs ls hP hD hS h) (fun c => kf c H locs ls hP hD hS h)
theorem w_if_le (F : FX M l D dA A cc nL own rt rm) {a : Nat} {off : Int} (tgt : Nat) (hdg : decode cc pc = .ok (.ifCond .le off, 3)) (ht : (pc : Int) + off = (tgt : Int)) (ha : a < 2 ^ 31) (kt : a = 0 → WW M D A nL Q ws cells slots tgt lv st) (kf : 0 < a → WW M D A nL Q ws cells slots (pc + 3) lv st) : WW M D A nL Q ws cells slots pc lv (.int (nI a) :: st) :=
  fun H locs ls hP hD hS h => lv_if_le F.1 F.2.1 hdg ht (fun c => kt (Nat.eq_zero_of_le_zero ((nI_leI ha (by decide)).mp (by rw [nI_0]; exact c))) H locs ls hP hD hS h) (fun c => kf (Nat.pos_of_ne_zero (fun z => c (by rw [z, nI_0]; decide))) H locs ls hP hD hS h)
theorem w_iald (F : FX M l D dA A cc nL own rt rm) (q0 : Nat) {a n i : Nat} {g : Nat → Nat} (ha : ws[q0]? = some (a, ar dA n g)) (hdg : decode cc pc = .ok (.iaload, 1)) (hi : i < n) (hn : n < 2 ^ 31) (kk : WW M D A nL Q ws cells slots (pc + 1) lv (.int (nI (g i)) :: st)) : WW M D A nL Q ws cells slots pc lv (.int (nI i) :: .ref a :: st) :=
  fun H locs ls hP hD hS h => va_iald F.1 F.2.1 F.2.2.2.2.2.1 hP q0 0 ha rfl (vp_in_nI hi hn) hdg (by rw [nI_clamp (Nat.lt_trans hi hn)]; exact kk H locs ls hP hD hS h)
theorem w_ialdX (F : FX M l D dA A cc nL own rt rm) (q0 : Nat) {a n i : Nat} {g : Nat → Int32} (ha : ws[q0]? = some (a, ai dA n g)) (hdg : decode cc pc = .ok (.iaload, 1)) (hi : i < n) (hn : n < 2 ^ 31) (kk : WW M D A nL Q ws cells slots (pc + 1) lv (.int (g i) :: st)) : WW M D A nL Q ws cells slots pc lv (.int (nI i) :: .ref a :: st) :=
  fun H locs ls hP hD hS h => va_iald F.1 F.2.1 F.2.2.2.2.2.1 hP q0 0 ha rfl (vp_in_nI hi hn) hdg (by rw [nI_clamp (Nat.lt_trans hi hn)]; exact kk H locs ls hP hD hS h)
theorem w_iast (F : FX M l D dA A cc nL own rt rm) (q0 : Nat) {a n i v : Nat} {g : Nat → Nat} (ws' : va_W) (ha : ws[q0]? = some (a, ar dA n g)) (hdg : decode cc pc = .ok (.iastore, 1)) (hi : i < n) (hn : n < 2 ^ 31) (hw : ws.set q0 (a, ar dA n (upN g i v)) = ws') (kk : WW M D A nL Q ws' cells slots (pc + 1) lv st) : WW M D A nL Q ws cells slots pc lv (.int (nI v) :: .int (nI i) :: .ref a :: st) :=
  fun H locs ls hP hD hS h => va_iast F.1 F.2.1 F.2.2.2.2.2.1 hP hD hS q0 0 ha rfl (vp_in_nI hi hn) hdg (fun H1 locs1 hP1 hD1 hS1 => by
    rw [nI_clamp (Nat.lt_trans hi hn), upN_upd] at hP1 hD1
    subst hw
    exact kk H1 locs1 ls hP1 hD1 hS1 h)
theorem w_iastX (F : FX M l D dA A cc nL own rt rm) (q0 : Nat) {a n i : Nat} {v : Int32} {g : Nat → Int32} (ws' : va_W) (ha : ws[q0]? = some (a, ai dA n g)) (hdg : decode cc pc = .ok (.iastore, 1)) (hi : i < n) (hn : n < 2 ^ 31) (hw : ws.set q0 (a, ai dA n (upd g i v)) = ws') (kk : WW M D A nL Q ws' cells slots (pc + 1) lv st) : WW M D A nL Q ws cells slots pc lv (.int v :: .int (nI i) :: .ref a :: st) :=
  fun H locs ls hP hD hS h => va_iast F.1 F.2.1 F.2.2.2.2.2.1 hP hD hS q0 0 ha rfl (vp_in_nI hi hn) hdg (fun H1 locs1 hP1 hD1 hS1 => by
    rw [nI_clamp (Nat.lt_trans hi hn)] at hP1 hD1
    subst hw
    exact kk H1 locs1 ls hP1 hD1 hS1 h)
theorem w_get (F : FX M l D dA A cc nL own rt rm) (q0 : Nat) {C : String} {T : u_T} {N ci index a : Nat} {fs : List Value} {v : Value} (hin : ∀ w ∈ u_ws C T N, w ∈ lw_all) (he : ws[q0]? = some (a, .inr (ci, fs))) (hc : vwCl[ci]? = some (C, T, N)) (k : Nat) (hk : k < N) (hlink : Cond.fieldLink own index (T k).1 (T k).2.1 (T k).2.2.1 ∈ lw_all) (hv : fs[k]? = some v) (hdg : decode cc pc = .ok (.getfield index, 3)) (kk : WW M D A nL Q ws cells slots (pc + 3) lv (v :: st)) : WW M D A nL Q ws cells slots pc lv (.ref a :: st) :=
  fun H locs ls hP hD hS h => va_get F.1 F.2.1 F.2.2.2.2.1 hin F.2.2.2.1 F.2.2.2.2.2.1 hP q0 he hc k hk (F.2.2.2.2.1 _ hlink) (fun _ h9 => h9) hv hdg (kk H locs ls hP hD hS h)
theorem w_put (F : FX M l D dA A cc nL own rt rm) (q0 : Nat) {C : String} {T : u_T} {N ci index a : Nat} {fs : List Value} {v : Value} {ty : FieldType} (ws' : va_W) (hin : ∀ w ∈ u_ws C T N, w ∈ lw_all) (ty0 : Nat → FieldType) (hty : ∀ k, k < N → parseFieldDescriptor (T k).2.2.1 = some (ty0 k)) (hnm : ∀ a, a < N → ∀ b, b < N → a ≠ b → (T a).2.1 ≠ (T b).2.1) (he : ws[q0]? = some (a, .inr (ci, fs))) (hc : vwCl[ci]? = some (C, T, N)) (k : Nat) (hk : k < N) (hlink : Cond.fieldLink own index (T k).1 (T k).2.1 (T k).2.2.1 ∈ lw_all) (hfin : (T k).2.2.2 = false) (hd : parseFieldDescriptor (T k).2.2.1 = some ty) (hn : narrow ty v = v) (hfit : fits ty v = true) (hl : k < fs.length) (hdg : decode cc pc = .ok (.putfield index, 3)) (hw : ws.set q0 (a, .inr (ci, fs.set k v)) = ws') (kk : WW M D A nL Q ws' cells slots (pc + 3) lv st) : WW M D A nL Q ws cells slots pc lv (v :: .ref a :: st) :=
  fun H locs ls hP hD hS h => va_put F.1 F.2.1 F.2.2.2.2.1 hin ty0 hty hnm F.2.2.2.1 F.2.2.2.2.2.1 hP hD hS q0 he hc k hk (F.2.2.2.2.1 _ hlink) (fun _ h9 => h9) hfin hd hn hfit hl hdg (fun H1 locs1 hP1 hD1 hS1 => by
    subst hw
    exact kk H1 locs1 ls hP1 hD1 hS1 h)
theorem w_putF (F : FX M l D dA A cc nL own rt rm) (hin2 : (mT M).name = "<init>") (q0 : Nat) {C : String} {T : u_T} {N ci index a : Nat} {fs : List Value} {v : Value} {ty : FieldType} (ws' : va_W) (hin : ∀ w ∈ u_ws C T N, w ∈ lw_all) (ty0 : Nat → FieldType) (hty : ∀ k, k < N → parseFieldDescriptor (T k).2.2.1 = some (ty0 k)) (hnm : ∀ a, a < N → ∀ b, b < N → a ≠ b → (T a).2.1 ≠ (T b).2.1) (he : ws[q0]? = some (a, .inr (ci, fs))) (hc : vwCl[ci]? = some (C, T, N)) (k : Nat) (hk : k < N) (hlink : Cond.fieldLink own index (T k).1 (T k).2.1 (T k).2.2.1 ∈ lw_all) (hfin : (T k).2.2.2 = true) (hdecl : (T k).1 = own) (hd : parseFieldDescriptor (T k).2.2.1 = some ty) (hn : narrow ty v = v) (hfit : fits ty v = true) (hl : k < fs.length) (hdg : decode cc pc = .ok (.putfield index, 3)) (hw : ws.set q0 (a, .inr (ci, fs.set k v)) = ws') (kk : WW M D A nL Q ws' cells slots (pc + 3) lv st) : WW M D A nL Q ws cells slots pc lv (v :: .ref a :: st) :=
  fun H locs ls hP hD hS h => va_putF F.1 F.2.1 F.2.2.2.2.1 hin ty0 hty hnm F.2.2.2.1 F.2.2.2.2.2.1 hP hD hS q0 he hc k hk (F.2.2.2.2.1 _ hlink) (fun _ h9 => h9) hfin hin2 hdecl hd hn hfit hl hdg (fun H1 locs1 hP1 hD1 hS1 => by
    subst hw
    exact kk H1 locs1 ls hP1 hD1 hS1 h)
theorem w_newa (F : FX M l D dA A cc nL own rt rm) {N : Nat} (hdg : decode cc pc = .ok (.newarray .int, 2)) (hN : N ≤ 100000) (hcells : cells + 1 ≤ rm.cells) (hslots : slots + N ≤ rm.slots) (kk : ∀ q : Nat, WW M D A nL Q (ws ++ [(q, ar dA N (fun _ => 0))]) (cells + 1) (slots + N) (pc + 2) lv (.ref q :: st)) : WW M D A nL Q ws cells slots pc lv (.int (nI N) :: st) := by
  intro H locs ls hP hD hS h
  have hK := F.2.2.2.2.2.1
  have hR : mR M = rm := F.2.2.2.2.2.2.2.2.2.1
  refine va_newa (atype := .int) (ty := .int) (a0 := (N, .inl (fun _ => nI 0))) (N' := N) F.1 F.2.1 (F.2.2.2.2.1 _ q31) rfl hK hP hD hS F.2.2.2.2.2.2.1 (fun cA => ?_) (nI_pos (by omega)) (nI_clamp (by omega)) ?_ (by rw [hR]; exact hcells) (by rw [hR]; exact hslots) hdg (fun q cA H1 hK1 hP1 hD1 hS1 => ?_)
  · rw [nI_0]; rfl
  · show N * 4 ≤ 536870912
    omega
  · have e1 : (mS M).vm.findClass ("[" ++ FieldType.int.toString) = some cA := (hK1.2 1 (cA, .int) rfl).2
    have e2 : (mS M).vm.findClass ("[" ++ FieldType.int.toString) = some dA := (hK.2 0 (dA, .int) rfl).2
    cases e1.symm.trans e2
    exact kk q H1 locs ls hP1 hD1 hS1 h
end ROWS
end
section
/-! returns and calls for the judgement WW -/
theorem PC_blind {D : va_G} {dA : ClassId} {av : List Value} {ws : va_W} {sz : Nat} : FrameBlind (PC D dA av ws sz) := by
  intro a U g mk q
  obtain ⟨q0, q1, qP, qK, qD, qN⟩ := q
  exact ⟨q0, q1, qP, va_K.moved (u := U) (U := U.calling g mk a) (Vm.Alike.refl U.vm) qK, qD, va_Nw.same rfl rfl qN⟩
theorem PC_at {s : State} {H : Heap} {D : va_G} {dA : ClassId} {av : List Value} {ws : va_W} {A : Nat → Prop} (hK : va_K D vwCl [(dA, .int)] s) (hP : va_P D vwCl ws H) (hD : va_D A ws) (hN : NW s) : ∀ U : State, U.heap = H → s.WarmedH U.vm → PC D dA av ws H.size av.toArray U :=
  fun U hU hW => ⟨rfl, by rw [hU], by rw [hU]; exact hP, va_K.moved hW.alike hK, hD.weaken (fun _ _ _ _ => trivial), va_Nw.warmM hW hN⟩
section CALLS
variable {M : MC} {l : Launch} {D : va_G} {dA : ClassId} {A : Nat → Prop} {cc : ByteArray} {nL : Nat} {own : String} {rt : Option FieldType} {rm : Room} {Q : State → Prop} {ws : va_W} {cells slots pc : Nat} {lv : List (Nat × Value)} {st : List Value}
theorem w_iret {ty : FieldType} {S : Type} {post : Int32 → S → Prop} {ws' : S → va_W} {v : Int32} (F : FX M l D dA A cc nL own (some ty) rm) (hdg : decode cc pc = .ok (.ireturn, 1)) (hn : narrow ty (.int v) = .int v) (u : S) (hp : post v u) (is : List Nat) (hs : is.map (fun i => ws[i]?) = (ws' u).map some) (hnd : va_nd is = true) (h1 : cells ≤ rm.cells) (h2 : slots ≤ rm.slots) : WW M D A nL (QI M D dA A rm post ws') ws cells slots pc lv [.int v] := by
  intro H locs ls hP hD hS hl
  refine W.widen h1 h2 ?_
  exact W.zret F.1 F.2.1 F.2.2.2.2.2.2.2.1 hn (fun t ht hW => ⟨⟨v, u, rfl, hp, by rw [ht]; exact hP.subM is hs, va_K.moved hW.alike F.2.2.2.2.2.1, hD.sub is hnd hs⟩, hS.F ht⟩) hS.2.2 hdg F.2.2.2.2.2.2.2.2.1
theorem w_vret {S : Type} {post : S → Prop} {ws' : S → va_W} (F : FX M l D dA A cc nL own none rm) (hdg : decode cc pc = .ok (.return_, 1)) (u : S) (hp : post u) (is : List Nat) (hs : is.map (fun i => ws[i]?) = (ws' u).map some) (hnd : va_nd is = true) (h1 : cells ≤ rm.cells) (h2 : slots ≤ rm.slots) : WW M D A nL (QV M D dA A rm post ws') ws cells slots pc lv [] := by
  intro H locs ls hP hD hS hl
  refine W.widen h1 h2 ?_
  exact W.vret F.1 F.2.1 F.2.2.2.2.2.2.2.1 (fun t ht hW => ⟨⟨u, rfl, hp, by rw [ht]; exact hP.subM is hs, va_K.moved hW.alike F.2.2.2.2.2.1, hD.sub is hnd hs⟩, hS.F ht⟩) hS.2.2 hdg F.2.2.2.2.2.2.2.2.1
theorem w_objInit (F : FX M l D dA A cc nL own rt rm) {idx a : Nat} (hw : Cond.methodLink own idx Lib.objectInit ∈ lw_all) (hdg : decode cc pc = .ok (.invokespecial idx, 3)) (h1 : 1 ≤ rm.frames) (h2 : (st.map fun v => v.category).sum + 12 ≤ rm.locals) (kk : WW M D A nL Q ws cells slots (pc + 3) lv st) : WW M D A nL Q ws cells slots pc lv (.ref a :: st) := by
  intro H locs ls hP hD hS hl
  have hR : mR M = rm := F.2.2.2.2.2.2.2.2.2.1
  have hml := F.2.2.1
  exact W.objInit F.1 F.2.1 F.2.2.2.1 (F.2.2.2.2.1 _ hw) (F.2.2.2.2.1 _ q19) (F.2.2.2.2.1 _ q20) rfl (by rw [hml]; exact hl.1) rfl hdg (by rw [hR]; exact h1) (by rw [hR]; show 2 * 0 + _ + 12 ≤ _; omega) (kk H locs ls hP hD hS hl)
/-- the callee's cells, the others, and the world behind the call: by places -/
def Cut (ws wc wr : va_W) (isC isR : List Nat) : Prop := isC.map (fun i => ws[i]?) = wc.map some ∧ va_nd isC = true ∧ isR.map (fun i => ws[i]?) = wr.map some ∧ va_nd isR = true ∧ ∀ i ∈ isR, i ∉ isC
def Nam (y : MethodName) (n : Nat) : Prop := y.cls ≠ "java/lang/invoke/MethodHandle" ∧ y.cls ≠ "java/lang/invoke/VarHandle" ∧ (parseMethodDescriptor y.desc).map (fun d => d.parameters.length) = some n
theorem w_callVI (F : FX M l D dA A cc nL own rt rm) {y : MethodName} {b : ByteArray} {L idx a : Nat} {ty : FieldType} {rm' : Room} {As : List Value} {wc wr : va_W} {S : Type} {post : Int32 → S → Prop} {ws1 : S → va_W} {stk : List Value} {q0 ci : Nat} {fs : List Value} {vc : vw_C} (hM : CTI l D dA y b L ty rm' (.ref a :: As) wc post ws1) (isC isR : List Nat) (hcut : Cut ws wc wr isC isR) (is2 : List Nat) (ws2 : S → va_W) (h2 : ∀ u, is2.map (fun i => (wr ++ ws1 u)[i]?) = (ws2 u).map some) (hn2 : va_nd is2 = true)
    (k1 : Cond.methodLink own idx y ∈ lw_all) (k2 : Cond.instanceMethod y ∈ lw_all) (k3 : Cond.selects y.cls y y ∈ lw_all) (k4 : Cond.initialized y.cls ∈ lw_all) (k5 : Cond.code y b L (some ty) ∈ lw_all) (hd : Nam y As.length)
    (hrc : wc[q0]? = some (a, .inr (ci, fs))) (hcl : vwCl[ci]? = some vc) (hcn : vc.1 = y.cls) (hfr : rm'.frames + 1 ≤ rm.frames) (hlo : 8 + (L + 11) + rm'.locals ≤ rm.locals) (hf1 : cells + rm'.cells ≤ rm.cells) (hf2 : slots + rm'.slots ≤ rm.slots) (hstk : stk = As.reverse ++ .ref a :: st) (hst : (st.map fun v => v.category).sum ≤ 8) (hdg : decode cc pc = .ok (.invokevirtual idx, 3))
    (kk : ∀ (r : Int32) (u : S), post r u → WW M D A nL Q (ws2 u) (cells + rm'.cells) (slots + rm'.slots) (pc + 3) lv (.int r :: st)) : WW M D A nL Q ws cells slots pc lv stk := by
  intro H locs ls hP hD hS hl
  obtain ⟨hx, hb, hml, hown, hts, hK, hA, -, -, hR, hLn, hNW⟩ := F
  obtain ⟨hC, hnC, hRr, hnR, hdis⟩ := hcut
  have hPc := hP.subM isC hC
  have hDc := hD.sub isC hnC hC
  have hFc := va_free (wc := wc) hD hS hA isC hC
  subst hLn
  refine va_calli (va_runV (As := As) (rest := st) ⟨hx, hb, hml, hown, hts⟩ (hM H.size) (cwV As.length hts (lw_V k1 k2 k3 k4 k5) rfl rfl rfl ⟨rfl, hd⟩ (by rw [hR]; exact ⟨hfr, hlo⟩)) ⟨PC_blind, hcn ▸ va_recv hK hPc hcl hrc, PC_at hK hPc hDc hNW⟩ rfl rfl hl.1 hstk (lv_room hst) hdg (by rw [hR]; exact ⟨hf1, hf2⟩)) hS (fun q _ h => hFc q h) hFc (fun r u t H1 locs1 ht hvm hpost hB hz1 hk1 hS1 => ?_)
  obtain ⟨hP1, -, hD1⟩ := hB
  rw [ht] at hP1
  obtain ⟨hP2, hD2⟩ := va_join (wr := wr) (w1 := ws1 u) hP hD isC isR hC hRr hnR hdis hk1 hFc hP1 hD1
  exact kk r u hpost H1 locs1 ls (hP2.subM is2 (h2 u)) (hD2.sub is2 hn2 (h2 u)) hS1 hl
theorem w_callVV (F : FX M l D dA A cc nL own rt rm) {y : MethodName} {b : ByteArray} {L idx a : Nat} {rm' : Room} {As : List Value} {wc wr : va_W} {S : Type} {post : S → Prop} {ws1 : S → va_W} {stk : List Value} {q0 ci : Nat} {fs : List Value} {vc : vw_C} (hM : CTV l D dA y b L rm' (.ref a :: As) wc post ws1) (isC isR : List Nat) (hcut : Cut ws wc wr isC isR) (is2 : List Nat) (ws2 : S → va_W) (h2 : ∀ u, is2.map (fun i => (wr ++ ws1 u)[i]?) = (ws2 u).map some) (hn2 : va_nd is2 = true)
    (k1 : Cond.methodLink own idx y ∈ lw_all) (k2 : Cond.instanceMethod y ∈ lw_all) (k3 : Cond.selects y.cls y y ∈ lw_all) (k4 : Cond.initialized y.cls ∈ lw_all) (k5 : Cond.code y b L none ∈ lw_all) (hd : Nam y As.length)
    (hrc : wc[q0]? = some (a, .inr (ci, fs))) (hcl : vwCl[ci]? = some vc) (hcn : vc.1 = y.cls) (hfr : rm'.frames + 1 ≤ rm.frames) (hlo : 8 + (L + 11) + rm'.locals ≤ rm.locals) (hf1 : cells + rm'.cells ≤ rm.cells) (hf2 : slots + rm'.slots ≤ rm.slots) (hstk : stk = As.reverse ++ .ref a :: st) (hst : (st.map fun v => v.category).sum ≤ 8) (hdg : decode cc pc = .ok (.invokevirtual idx, 3))
    (kk : ∀ (u : S), post u → WW M D A nL Q (ws2 u) (cells + rm'.cells) (slots + rm'.slots) (pc + 3) lv st) : WW M D A nL Q ws cells slots pc lv stk := by
  intro H locs ls hP hD hS hl
  obtain ⟨hx, hb, hml, hown, hts, hK, hA, -, -, hR, hLn, hNW⟩ := F
  obtain ⟨hC, hnC, hRr, hnR, hdis⟩ := hcut
  have hPc := hP.subM isC hC
  have hDc := hD.sub isC hnC hC
  have hFc := va_free (wc := wc) hD hS hA isC hC
  subst hLn
  refine va_callv (va_runV (As := As) (rest := st) ⟨hx, hb, hml, hown, hts⟩ (hM H.size) (cwV As.length hts (lw_V k1 k2 k3 k4 k5) rfl rfl rfl ⟨rfl, hd⟩ (by rw [hR]; exact ⟨hfr, hlo⟩)) ⟨PC_blind, hcn ▸ va_recv hK hPc hcl hrc, PC_at hK hPc hDc hNW⟩ rfl rfl hl.1 hstk (lv_room hst) hdg (by rw [hR]; exact ⟨hf1, hf2⟩)) hS (fun q _ h => hFc q h) hFc (fun u t H1 locs1 ht hvm hpost hB hz1 hk1 hS1 => ?_)
  obtain ⟨hP1, -, hD1⟩ := hB
  rw [ht] at hP1
  obtain ⟨hP2, hD2⟩ := va_join (wr := wr) (w1 := ws1 u) hP hD isC isR hC hRr hnR hdis hk1 hFc hP1 hD1
  exact kk u hpost H1 locs1 ls (hP2.subM is2 (h2 u)) (hD2.sub is2 hn2 (h2 u)) hS1 hl
theorem w_callSI (F : FX M l D dA A cc nL own rt rm) {y : MethodName} {b : ByteArray} {L idx : Nat} {ty : FieldType} {rm' : Room} {As : List Value} {wc wr : va_W} {S : Type} {post : Int32 → S → Prop} {ws1 : S → va_W} {stk : List Value} (hM : CTI l D dA y b L ty rm' As wc post ws1) (isC isR : List Nat) (hcut : Cut ws wc wr isC isR) (is2 : List Nat) (ws2 : S → va_W) (h2 : ∀ u, is2.map (fun i => (wr ++ ws1 u)[i]?) = (ws2 u).map some) (hn2 : va_nd is2 = true)
    (k1 : Cond.methodLink own idx y ∈ lw_all) (k2 : Cond.static y ∈ lw_all) (k4 : Cond.initialized y.cls ∈ lw_all) (k5 : Cond.code y b L (some ty) ∈ lw_all) (hd : Nam y As.length)
    (hfr : rm'.frames + 1 ≤ rm.frames) (hlo : 8 + (L + 11) + rm'.locals ≤ rm.locals) (hf1 : cells + rm'.cells ≤ rm.cells) (hf2 : slots + rm'.slots ≤ rm.slots) (hstk : stk = As.reverse ++ st) (hst : (st.map fun v => v.category).sum ≤ 8) (hdg : decode cc pc = .ok (.invokestatic idx, 3))
    (kk : ∀ (r : Int32) (u : S), post r u → WW M D A nL Q (ws2 u) (cells + rm'.cells) (slots + rm'.slots) (pc + 3) lv (.int r :: st)) : WW M D A nL Q ws cells slots pc lv stk := by
  intro H locs ls hP hD hS hl
  obtain ⟨hx, hb, hml, hown, hts, hK, hA, -, -, hR, hLn, hNW⟩ := F
  obtain ⟨hC, hnC, hRr, hnR, hdis⟩ := hcut
  have hPc := hP.subM isC hC
  have hDc := hD.sub isC hnC hC
  have hFc := va_free (wc := wc) hD hS hA isC hC
  subst hLn
  refine va_calli (va_runS (As := As) (rest := st) ⟨hx, hb, hml, hown, hts⟩ (hM H.size) (va_cwS As.length hts (lw_S k1 k2 k4 k5) rfl rfl rfl hd (by rw [hR]; exact ⟨hfr, hlo⟩)) ⟨PC_blind, PC_at hK hPc hDc hNW⟩ rfl rfl hl.1 hstk (lv_room hst) hdg (by rw [hR]; exact ⟨hf1, hf2⟩)) hS (fun q _ h => hFc q h) hFc (fun r u t H1 locs1 ht hvm hpost hB hz1 hk1 hS1 => ?_)
  obtain ⟨hP1, -, hD1⟩ := hB
  rw [ht] at hP1
  obtain ⟨hP2, hD2⟩ := va_join (wr := wr) (w1 := ws1 u) hP hD isC isR hC hRr hnR hdis hk1 hFc hP1 hD1
  exact kk r u hpost H1 locs1 ls (hP2.subM is2 (h2 u)) (hD2.sub is2 hn2 (h2 u)) hS1 hl
theorem w_callIV (F : FX M l D dA A cc nL own rt rm) {y : MethodName} {b : ByteArray} {L idx a : Nat} {rm' : Room} {As : List Value} {wc wr : va_W} {S : Type} {post : S → Prop} {ws1 : S → va_W} {stk : List Value} (hM : CTV l D dA y b L rm' (.ref a :: As) wc post ws1) (isC isR : List Nat) (hcut : Cut ws wc wr isC isR) (is2 : List Nat) (ws2 : S → va_W) (h2 : ∀ u, is2.map (fun i => (wr ++ ws1 u)[i]?) = (ws2 u).map some) (hn2 : va_nd is2 = true)
    (k1 : Cond.methodLink own idx y ∈ lw_all) (k2 : Cond.instanceMethod y ∈ lw_all) (k4 : Cond.initialized y.cls ∈ lw_all) (k5 : Cond.code y b L none ∈ lw_all) (hy1 : y.name = "<init>") (hd : Nam y As.length)
    (hfr : rm'.frames + 1 ≤ rm.frames) (hlo : 8 + (L + 11) + rm'.locals ≤ rm.locals) (hf1 : cells + rm'.cells ≤ rm.cells) (hf2 : slots + rm'.slots ≤ rm.slots) (hstk : stk = As.reverse ++ .ref a :: st) (hst : (st.map fun v => v.category).sum ≤ 8) (hdg : decode cc pc = .ok (.invokespecial idx, 3))
    (kk : ∀ (u : S), post u → WW M D A nL Q (ws2 u) (cells + rm'.cells) (slots + rm'.slots) (pc + 3) lv st) : WW M D A nL Q ws cells slots pc lv stk := by
  intro H locs ls hP hD hS hl
  obtain ⟨hx, hb, hml, hown, hts, hK, hA, -, -, hR, hLn, hNW⟩ := F
  obtain ⟨hC, hnC, hRr, hnR, hdis⟩ := hcut
  have hPc := hP.subM isC hC
  have hDc := hD.sub isC hnC hC
  have hFc := va_free (wc := wc) hD hS hA isC hC
  subst hLn
  refine va_callv (va_runI (As := As) (rest := st) ⟨hx, hb, hml, hown, hts⟩ (hM H.size) (cwI As.length hts (lw_meth k5) rfl rfl rfl (hts _ k4) (hts _ k1) (hts _ k2) hy1 hd (by rw [hR]; exact ⟨hfr, hlo⟩)) ⟨PC_blind, PC_at hK hPc hDc hNW⟩ rfl rfl hl.1 hstk (lv_room hst) hdg (by rw [hR]; exact ⟨hf1, hf2⟩)) hS (fun q _ h => hFc q h) hFc (fun u t H1 locs1 ht hvm hpost hB hz1 hk1 hS1 => ?_)
  obtain ⟨hP1, -, hD1⟩ := hB
  rw [ht] at hP1
  obtain ⟨hP2, hD2⟩ := va_join (wr := wr) (w1 := ws1 u) hP hD isC isR hC hRr hnR hdis hk1 hFc hP1 hD1
  exact kk u hpost H1 locs1 ls (hP2.subM is2 (h2 u)) (hD2.sub is2 hn2 (h2 u)) hS1 hl
theorem w_callINV (F : FX M l D dA A cc nL own rt rm) {y : MethodName} {b : ByteArray} {L idx a : Nat} {host : String} {rm' : Room} {As : List Value} {wc wr : va_W} {S : Type} {post : S → Prop} {ws1 : S → va_W} {stk : List Value} (hM : CTV l D dA y b L rm' (.ref a :: As) wc post ws1) (isC isR : List Nat) (hcut : Cut ws wc wr isC isR) (is2 : List Nat) (ws2 : S → va_W) (h2 : ∀ u, is2.map (fun i => (wr ++ ws1 u)[i]?) = (ws2 u).map some) (hn2 : va_nd is2 = true)
    (k1 : va_Nw (.methodLinkNest own idx y host) (mS M)) (k2 : Cond.instanceMethod y ∈ lw_all) (k4 : Cond.initialized y.cls ∈ lw_all) (k5 : Cond.code y b L none ∈ lw_all) (hy1 : y.name = "<init>") (hd : Nam y As.length)
    (hfr : rm'.frames + 1 ≤ rm.frames) (hlo : 8 + (L + 11) + rm'.locals ≤ rm.locals) (hf1 : cells + rm'.cells ≤ rm.cells) (hf2 : slots + rm'.slots ≤ rm.slots) (hstk : stk = As.reverse ++ .ref a :: st) (hst : (st.map fun v => v.category).sum ≤ 8) (hdg : decode cc pc = .ok (.invokespecial idx, 3))
    (kk : ∀ (u : S), post u → WW M D A nL Q (ws2 u) (cells + rm'.cells) (slots + rm'.slots) (pc + 3) lv st) : WW M D A nL Q ws cells slots pc lv stk := by
  intro H locs ls hP hD hS hl
  obtain ⟨hx, hb, hml, hown, hts, hK, hA, -, -, hR, hLn, hNW⟩ := F
  obtain ⟨hC, hnC, hRr, hnR, hdis⟩ := hcut
  have hPc := hP.subM isC hC
  have hDc := hD.sub isC hnC hC
  have hFc := va_free (wc := wc) hD hS hA isC hC
  subst hLn
  refine va_callv (va_runIN (As := As) (rest := st) ⟨hx, hb, hml, hown, hts⟩ (hM H.size) ⟨va_cnB As.length hts (lw_meth k5) rfl rfl rfl k1 (hts _ k4) hd (by rw [hR]; exact ⟨hfr, hlo⟩), hy1, hts _ k2⟩ ⟨PC_blind, PC_at hK hPc hDc hNW⟩ rfl rfl hl.1 hstk (lv_room hst) hdg (by rw [hR]; exact ⟨hf1, hf2⟩)) hS (fun q _ h => hFc q h) hFc (fun u t H1 locs1 ht hvm hpost hB hz1 hk1 hS1 => ?_)
  obtain ⟨hP1, -, hD1⟩ := hB
  rw [ht] at hP1
  obtain ⟨hP2, hD2⟩ := va_join (wr := wr) (w1 := ws1 u) hP hD isC isR hC hRr hnR hdis hk1 hFc hP1 hD1
  exact kk u hpost H1 locs1 ls (hP2.subM is2 (h2 u)) (hD2.sub is2 hn2 (h2 u)) hS1 hl
end CALLS
end
section
/-! plain law: counting, places of a stable sort, words without end compared -/
theorem rs_pig : ∀ (n : Nat) (f : Nat → Nat), (∀ i, i ≤ n → f i < n) → (∀ i j, i ≤ n → j ≤ n → f i = f j → i = j) → False := by
  intro n
  induction n with
  | zero => intro f h _; exact absurd (h 0 (Nat.le_refl 0)) (Nat.not_lt_zero _)
  | succ n ih =>
    intro f h hi
    have hv : f (n + 1) < n + 1 := h (n + 1) (Nat.le_refl _)
    refine ih (fun i => if f i = n then f (n + 1) else f i) ?_ ?_
    · intro i hi'
      have h1 := h i (by omega)
      show (if f i = n then f (n + 1) else f i) < n
      by_cases e : f i = n
      · rw [if_pos e]
        have : f (n + 1) ≠ n := fun z => by
          have := hi i (n + 1) (by omega) (by omega) (e.trans z.symm)
          omega
        omega
      · rw [if_neg e]; omega
    · intro i j hi' hj' e
      have e : (if f i = n then f (n + 1) else f i) = (if f j = n then f (n + 1) else f j) := e
      by_cases e1 : f i = n
      · by_cases e2 : f j = n
        · exact hi i j (by omega) (by omega) (e1.trans e2.symm)
        · rw [if_pos e1, if_neg e2] at e
          have := hi (n + 1) j (by omega) (by omega) e
          omega
      · by_cases e2 : f j = n
        · rw [if_neg e1, if_pos e2] at e
          have := hi i (n + 1) (by omega) (by omega) e
          omega
        · rw [if_neg e1, if_neg e2] at e
          exact hi i j (by omega) (by omega) e
theorem rs_surj {n : Nat} {f : Nat → Nat} (h : ∀ i, i < n → f i < n) (hi : ∀ i j, i < n → j < n → f i = f j → i = j) (y : Nat) (hy : y < n) : ∃ x, x < n ∧ f x = y := by
  by_cases hx : ∃ x, x < n ∧ f x = y
  · exact hx
  · exfalso
    have hno : ∀ x, x < n → f x ≠ y := fun x h1 h2 => hx ⟨x, h1, h2⟩
    refine rs_pig n (fun i => if i < n then f i else y) ?_ ?_
    · intro i _
      show (if i < n then f i else y) < n
      by_cases e : i < n
      · rw [if_pos e]; exact h i e
      · rw [if_neg e]; exact hy
    · intro i j hi' hj' e
      have e : (if i < n then f i else y) = (if j < n then f j else y) := e
      by_cases e1 : i < n
      · by_cases e2 : j < n
        · rw [if_pos e1, if_pos e2] at e
          exact hi i j e1 e2 e
        · rw [if_pos e1, if_neg e2] at e
          exact absurd e (hno i e1)
      · by_cases e2 : j < n
        · rw [if_neg e1, if_pos e2] at e
          exact absurd e.symm (hno j e2)
        · omega
/-- how many below n have a number under v; how many have v -/
def cl (κ : Nat → Nat) (v : Nat) : Nat → Nat
  | 0 => 0
  | n + 1 => cl κ v n + if κ n < v then 1 else 0
def ce (κ : Nat → Nat) (v : Nat) : Nat → Nat
  | 0 => 0
  | n + 1 => ce κ v n + if κ n = v then 1 else 0
theorem cl_s (κ : Nat → Nat) (v n : Nat) : cl κ v (n + 1) = cl κ v n + if κ n < v then 1 else 0 := rfl
theorem ce_s (κ : Nat → Nat) (v n : Nat) : ce κ v (n + 1) = ce κ v n + if κ n = v then 1 else 0 := rfl
theorem cl_next (κ : Nat → Nat) (v n : Nat) : cl κ (v + 1) n = cl κ v n + ce κ v n := by
  induction n with
  | zero => rfl
  | succ n ih =>
    rw [cl_s, cl_s, ce_s, ih]
    by_cases h1 : κ n < v
    · rw [if_pos h1, if_pos (by omega), if_neg (by omega)]; omega
    · by_cases h2 : κ n = v
      · rw [if_neg h1, if_pos (by omega), if_pos h2]; omega
      · rw [if_neg h1, if_neg (by omega), if_neg h2]; omega
theorem cl_0 (κ : Nat → Nat) (n : Nat) : cl κ 0 n = 0 := by
  induction n with
  | zero => rfl
  | succ n ih => rw [cl_s, ih, if_neg (Nat.not_lt_zero _)]
theorem cl_le (κ : Nat → Nat) (v n : Nat) : cl κ v n ≤ n := by
  induction n with
  | zero => exact Nat.le_refl 0
  | succ n ih => rw [cl_s]; split <;> omega
theorem cl_all (κ : Nat → Nat) (v n : Nat) (h : ∀ i, i < n → κ i < v) : cl κ v n = n := by
  induction n with
  | zero => rfl
  | succ n ih => rw [cl_s, ih (fun i hi => h i (by omega)), if_pos (h n (by omega))]
theorem cl_mono (κ : Nat → Nat) {v w : Nat} (n : Nat) (h : v ≤ w) : cl κ v n ≤ cl κ w n := by
  induction n with
  | zero => exact Nat.le_refl 0
  | succ n ih =>
    rw [cl_s, cl_s]
    by_cases h1 : κ n < v
    · rw [if_pos h1, if_pos (by omega)]; omega
    · rw [if_neg h1]; omega
theorem cl_monoN (κ : Nat → Nat) (v : Nat) {m n : Nat} (h : m ≤ n) : cl κ v m ≤ cl κ v n := by
  induction n with
  | zero => rw [Nat.le_zero.mp h]; exact Nat.le_refl _
  | succ n ih =>
    by_cases e : m = n + 1
    · rw [e]; exact Nat.le_refl _
    · rw [cl_s]
      have := ih (by omega)
      omega
theorem cl_lt (κ : Nat → Nat) {v m n : Nat} (h : m < n) (hv : κ m < v) : cl κ v m < cl κ v n := by
  have h1 : cl κ v (m + 1) ≤ cl κ v n := cl_monoN κ v h
  rw [cl_s, if_pos hv] at h1
  omega
theorem ce_monoN (κ : Nat → Nat) (v : Nat) {m n : Nat} (h : m ≤ n) : ce κ v m ≤ ce κ v n := by
  induction n with
  | zero => rw [Nat.le_zero.mp h]; exact Nat.le_refl _
  | succ n ih =>
    by_cases e : m = n + 1
    · rw [e]; exact Nat.le_refl _
    · rw [ce_s]
      have := ih (by omega)
      omega
theorem ce_lt (κ : Nat → Nat) {v m n : Nat} (h : m < n) (hv : κ m = v) : ce κ v m < ce κ v n := by
  have h1 : ce κ v (m + 1) ≤ ce κ v n := ce_monoN κ v h
  rw [ce_s, if_pos hv] at h1
  omega
theorem ce_none (κ : Nat → Nat) (v n : Nat) (h : ∀ i, i < n → κ i ≠ v) : ce κ v n = 0 := by
  induction n with
  | zero => rfl
  | succ n ih => rw [ce_s, ih (fun i hi => h i (by omega)), if_neg (h n (by omega))]
theorem ce_one (κ : Nat → Nat) (v n x : Nat) (hx : x < n) (hv : κ x = v) (hu : ∀ i, i < n → κ i = v → i = x) : ce κ v n = 1 := by
  induction n with
  | zero => omega
  | succ n ih =>
    rw [ce_s]
    by_cases e : x = n
    · subst e
      rw [ce_none κ v x (fun i hi z => by have := hu i (by omega) z; omega), if_pos hv]
    · rw [ih (by omega) (fun i hi z => hu i (by omega) z), if_neg (fun z => e (hu n (by omega) z).symm)]
/-- under a bijection of the first n numbers as many fall under v as there are -/
theorem cl_bij {κ : Nat → Nat} {n : Nat} (h : ∀ i, i < n → κ i < n) (hi : ∀ i j, i < n → j < n → κ i = κ j → i = j) : ∀ v, v ≤ n → cl κ v n = v := by
  intro v
  induction v with
  | zero => intro _; exact cl_0 κ n
  | succ v ih =>
    intro hv
    obtain ⟨x, hx, hxv⟩ := rs_surj h hi v (by omega)
    rw [cl_next, ih (by omega), ce_one κ v n x hx hxv (fun i h1 h2 => hi i x h1 hx (h2.trans hxv.symm))]
/-- the place of the k-th in a stable sort -/
def pos (κ : Nat → Nat) (n k : Nat) : Nat := cl κ (κ k) n + ce κ (κ k) k
theorem pos_next {κ : Nat → Nat} {n k : Nat} (h : k < n) : pos κ n k < cl κ (κ k + 1) n := by
  rw [cl_next]
  have := ce_lt κ h rfl
  unfold pos
  omega
theorem pos_lt {κ : Nat → Nat} {n k : Nat} (h : k < n) : pos κ n k < n := Nat.lt_of_lt_of_le (pos_next h) (cl_le κ _ n)
theorem pos_mono {κ : Nat → Nat} {n i j : Nat} (hi : i < n) (hj : j < n) (h : κ i < κ j ∨ (κ i = κ j ∧ i < j)) : pos κ n i < pos κ n j := by
  rcases h with h | ⟨h, h2⟩
  · have h1 := pos_next (κ := κ) hi
    have h2 := cl_mono κ n (show κ i + 1 ≤ κ j from h)
    have h3 : cl κ (κ j) n ≤ pos κ n j := Nat.le_add_right _ _
    omega
  · unfold pos
    rw [h]
    have := ce_lt κ (v := κ j) h2 h
    omega
theorem pos_tri {κ : Nat → Nat} (i j : Nat) : (κ i < κ j ∨ (κ i = κ j ∧ i < j)) ∨ i = j ∨ (κ j < κ i ∨ (κ j = κ i ∧ j < i)) := by omega
theorem pos_inj {κ : Nat → Nat} {n i j : Nat} (hi : i < n) (hj : j < n) (h : pos κ n i = pos κ n j) : i = j := by
  rcases pos_tri (κ := κ) i j with q | q | q
  · have := pos_mono hi hj q; omega
  · exact q
  · have := pos_mono hj hi q; omega
/-- σ tells which one stands at each place of the stable sort -/
def Stab (κ : Nat → Nat) (n : Nat) (σ : Nat → Nat) : Prop := (∀ a, a < n → σ a < n) ∧ ∀ a b, a < b → b < n → κ (σ a) < κ (σ b) ∨ (κ (σ a) = κ (σ b) ∧ σ a < σ b)
theorem stab_ex (κ : Nat → Nat) (n : Nat) : ∃ σ : Nat → Nat, Stab κ n σ ∧ ∀ a, a < n → pos κ n (σ a) = a := by
  have h : ∀ a, ∃ x, a < n → x < n ∧ pos κ n x = a := by
    intro a
    by_cases ha : a < n
    · obtain ⟨x, h1, h2⟩ := rs_surj (f := pos κ n) (fun i hi => pos_lt hi) (fun i j hi hj e => pos_inj hi hj e) a ha
      exact ⟨x, fun _ => ⟨h1, h2⟩⟩
    · exact ⟨0, fun z => absurd z ha⟩
  refine ⟨fun a => (h a).choose, ⟨fun a ha => ((h a).choose_spec ha).1, fun a b hab hb => ?_⟩, fun a ha => ((h a).choose_spec ha).2⟩
  have ha : a < n := Nat.lt_trans hab hb
  obtain ⟨x1, x2⟩ := (h a).choose_spec ha
  obtain ⟨y1, y2⟩ := (h b).choose_spec hb
  rcases pos_tri (κ := κ) (h a).choose (h b).choose with q | q | q
  · exact q
  · rw [q] at x2; omega
  · have := pos_mono y1 x1 q
    omega
theorem Stab.inj {κ : Nat → Nat} {n : Nat} {σ : Nat → Nat} (h : Stab κ n σ) : ∀ i j, i < n → j < n → σ i = σ j → i = j := by
  intro i j hi hj e
  rcases Nat.lt_trichotomy i j with q | q | q
  · have := h.2 i j q hj; rw [e] at this; omega
  · exact q
  · have := h.2 j i q hi; rw [e] at this; omega
/-- words without end, from place i and from place j: the first difference -/
def lexLt (U : Nat → Nat) (i j : Nat) : Prop := ∃ d, (∀ t, t < d → U (i + t) = U (j + t)) ∧ U (i + d) < U (j + d)
theorem lex_irr {U : Nat → Nat} {i : Nat} (h : lexLt U i i) : False := by
  obtain ⟨d, -, h⟩ := h
  omega
theorem lex_iff (U : Nat → Nat) (i j : Nat) : lexLt U i j ↔ U i < U j ∨ (U i = U j ∧ lexLt U (i + 1) (j + 1)) := by
  constructor
  · rintro ⟨d, h1, h2⟩
    cases d with
    | zero => left; exact h2
    | succ d =>
      right
      refine ⟨h1 0 (Nat.succ_pos d), d, fun t ht => ?_, ?_⟩
      · have := h1 (t + 1) (by omega)
        rw [show i + 1 + t = i + (t + 1) by omega, show j + 1 + t = j + (t + 1) by omega]
        exact this
      · rw [show i + 1 + d = i + (d + 1) by omega, show j + 1 + d = j + (d + 1) by omega]
        exact h2
  · rintro (h | ⟨h0, d, h1, h2⟩)
    · exact ⟨0, fun t ht => absurd ht (Nat.not_lt_zero t), h⟩
    · refine ⟨d + 1, fun t ht => ?_, ?_⟩
      · cases t with
        | zero => exact h0
        | succ t =>
          have := h1 t (by omega)
          rw [show i + 1 + t = i + (t + 1) by omega, show j + 1 + t = j + (t + 1) by omega] at this
          exact this
      · rw [show i + 1 + d = i + (d + 1) by omega, show j + 1 + d = j + (d + 1) by omega] at h2
        exact h2
theorem lex_trans {U : Nat → Nat} {i j k : Nat} (h1 : lexLt U i j) (h2 : lexLt U j k) : lexLt U i k := by
  obtain ⟨d, a1, a2⟩ := h1
  obtain ⟨e, b1, b2⟩ := h2
  rcases Nat.lt_trichotomy d e with q | q | q
  · refine ⟨d, fun t ht => (a1 t ht).trans (b1 t (by omega)), ?_⟩
    rw [← b1 d q]; exact a2
  · subst q
    exact ⟨d, fun t ht => (a1 t ht).trans (b1 t ht), Nat.lt_trans a2 b2⟩
  · refine ⟨e, fun t ht => (a1 t (by omega)).trans (b1 t ht), ?_⟩
    rw [a1 e q]; exact b2
theorem lex_asym {U : Nat → Nat} {i j : Nat} (h1 : lexLt U i j) (h2 : lexLt U j i) : False := lex_irr (lex_trans h1 h2)
theorem lex_tri (U : Nat → Nat) (i j : Nat) : lexLt U i j ∨ lexLt U j i ∨ ∀ t, U (i + t) = U (j + t) := by
  by_cases h : ∃ d, U (i + d) ≠ U (j + d)
  · obtain ⟨d, h1, h2⟩ := pk_least (fun d => U (i + d) ≠ U (j + d)) h
    have h3 : ∀ t, t < d → U (i + t) = U (j + t) := fun t ht => Classical.not_not.mp (h2 t ht)
    rcases Nat.lt_or_gt_of_ne h1 with q | q
    · left; exact ⟨d, h3, q⟩
    · right; left; exact ⟨d, fun t ht => (h3 t ht).symm, q⟩
  · right; right
    intro t
    exact Classical.not_not.mp (fun z => h ⟨t, z⟩)
theorem lex_eqL {U : Nat → Nat} {i i' j : Nat} (h : ∀ t, U (i + t) = U (i' + t)) (hl : lexLt U i j) : lexLt U i' j := by
  obtain ⟨d, a1, a2⟩ := hl
  exact ⟨d, fun t ht => (h t).symm.trans (a1 t ht), by rw [← h d]; exact a2⟩
theorem lex_eqR {U : Nat → Nat} {i j j' : Nat} (h : ∀ t, U (j + t) = U (j' + t)) (hl : lexLt U i j) : lexLt U i j' := by
  obtain ⟨d, a1, a2⟩ := hl
  exact ⟨d, fun t ht => (a1 t ht).trans (h t), by rw [← h d]; exact a2⟩
/-- not after -/
def lexLe (U : Nat → Nat) (i j : Nat) : Prop := ¬ lexLt U j i
theorem lexLe_trans {U : Nat → Nat} {i j k : Nat} (h1 : lexLe U i j) (h2 : lexLe U j k) : lexLe U i k := by
  intro h
  rcases lex_tri U i j with q | q | q
  · exact h2 (lex_trans h q)
  · exact h1 q
  · exact h2 (lex_eqR q h)
theorem lexLe_of_lt {U : Nat → Nat} {i j : Nat} (h : lexLt U i j) : lexLe U i j := fun z => lex_asym h z
theorem lexLe_anti {U : Nat → Nat} {i j : Nat} (h1 : lexLe U i j) (h2 : lexLe U j i) : ∀ t, U (i + t) = U (j + t) := by
  rcases lex_tri U i j with q | q | q
  · exact absurd q h2
  · exact absurd q h1
  · exact q
/-- two sorted orders of the same N places hold the same words -/
theorem sorted_unique {U : Nat → Nat} {N : Nat} {p q : Nat → Nat} (hp : ∀ a, a < N → p a < N) (hpi : ∀ a b, a < N → b < N → p a = p b → a = b) (hps : ∀ a b, a < b → b < N → lexLe U (p a) (p b))
    (hq : ∀ a, a < N → q a < N) (hqi : ∀ a b, a < N → b < N → q a = q b → a = b) (hqs : ∀ a b, a < b → b < N → lexLe U (q a) (q b)) (a : Nat) (ha : a < N) : lexLe U (p a) (q a) := by
  intro h
  have hch : ∀ i, ∃ x, i < N → x < N ∧ p x = q i := by
    intro i
    by_cases hi : i < N
    · obtain ⟨x, h1, h2⟩ := rs_surj hp hpi (q i) (hq i hi)
      exact ⟨x, fun _ => ⟨h1, h2⟩⟩
    · exact ⟨0, fun z => absurd z hi⟩
  refine rs_pig a (fun i => (hch i).choose) (fun i hi => ?_) (fun i j hi hj e => ?_)
  · obtain ⟨x1, x2⟩ := (hch i).choose_spec (by omega)
    show (hch i).choose < a
    rcases Nat.lt_or_ge (hch i).choose a with g | g
    · exact g
    · exfalso
      have h1 : lexLe U (p a) (p (hch i).choose) := by
        rcases Nat.lt_or_ge a (hch i).choose with g2 | g2
        · exact hps _ _ g2 x1
        · rw [show (hch i).choose = a by omega]; exact fun z => lex_irr z
      rw [x2] at h1
      have h2 : lexLe U (q i) (q a) := by
        rcases Nat.lt_or_ge i a with g2 | g2
        · exact hqs _ _ g2 ha
        · rw [show i = a by omega]; exact fun z => lex_irr z
      exact lexLe_trans h1 h2 h
  · have e : (hch i).choose = (hch j).choose := e
    obtain ⟨x1, x2⟩ := (hch i).choose_spec (by omega)
    obtain ⟨y1, y2⟩ := (hch j).choose_spec (by omega)
    rw [e] at x2
    exact hqi i j (by omega) (by omega) (x2.symm.trans y2)
end
section
/-! plain law: the counting pass, names of threes, suffixes by thirds -/
def I2 (κ : Nat → Nat) (most k : Nat) (cnt : Nat → Nat) : Prop := ∀ v, v ≤ most → cnt v = ce κ v k
theorem I2_step {κ : Nat → Nat} {most k : Nat} {cnt : Nat → Nat} (h : I2 κ most k cnt) (hk : κ k ≤ most) : I2 κ most (k + 1) (upN cnt (κ k) (cnt (κ k) + 1)) := by
  intro v hv
  rw [ce_s]
  by_cases e : κ k = v
  · rw [if_pos e, ← e, upN_same, h _ hk]
  · rw [if_neg e, upN_ne (Ne.symm e), h v hv]; rfl
def I3 (κ : Nat → Nat) (most many k : Nat) (cnt : Nat → Nat) (sum : Nat) : Prop := sum = cl κ k many ∧ (∀ v, v < k → cnt v = cl κ v many) ∧ ∀ v, k ≤ v → v ≤ most → cnt v = ce κ v many
theorem I3_step {κ : Nat → Nat} {most many k sum : Nat} {cnt : Nat → Nat} (h : I3 κ most many k cnt sum) (hk : k ≤ most) : I3 κ most many (k + 1) (upN cnt k sum) (sum + cnt k) := by
  obtain ⟨h1, h2, h3⟩ := h
  refine ⟨by rw [cl_next, h1, h3 k (Nat.le_refl k) hk], fun v hv => ?_, fun v hv hm => ?_⟩
  · by_cases e : v = k
    · rw [e, upN_same, h1]
    · rw [upN_ne e]; exact h2 v (by omega)
  · rw [upN_ne (by omega)]; exact h3 v (by omega) hm
def I4 (κ : Nat → Nat) (most many : Nat) (fr to0 : Nat → Nat) (k : Nat) (cnt to : Nat → Nat) : Prop := (∀ v, v ≤ most → cnt v = cl κ v many + ce κ v k) ∧ (∀ j, j < k → to (pos κ many j) = fr j) ∧ ∀ a, many ≤ a → to a = to0 a
theorem I4_at {κ : Nat → Nat} {most many k : Nat} {fr to0 cnt to : Nat → Nat} (h : I4 κ most many fr to0 k cnt to) (hκ : κ k ≤ most) : cnt (κ k) = pos κ many k := h.1 _ hκ
theorem I4_step {κ : Nat → Nat} {most many k : Nat} {fr to0 cnt to : Nat → Nat} (h : I4 κ most many fr to0 k cnt to) (hk : k < many) (hκ : κ k ≤ most) : I4 κ most many fr to0 (k + 1) (upN cnt (κ k) (cnt (κ k) + 1)) (upN to (cnt (κ k)) (fr k)) := by
  have hp := I4_at h hκ
  obtain ⟨h1, h2, h3⟩ := h
  have hpl := pos_lt (κ := κ) hk
  refine ⟨fun v hv => ?_, fun j hj => ?_, fun a ha => ?_⟩
  · rw [ce_s]
    by_cases e : κ k = v
    · rw [if_pos e, ← e, upN_same, h1 _ hκ]; omega
    · rw [if_neg e, upN_ne (Ne.symm e), h1 v hv]; rfl
  · rw [hp]
    by_cases e : j = k
    · rw [e, upN_same]
    · have hne : pos κ many j ≠ pos κ many k := fun z => e (pos_inj (by omega) hk z)
      rw [upN_ne hne]; exact h2 j (by omega)
  · rw [hp, upN_ne (by omega)]; exact h3 a ha
theorem I4_end {κ : Nat → Nat} {most many : Nat} {fr to0 cnt to : Nat → Nat} (h : I4 κ most many fr to0 many cnt to) : ∃ σ, Stab κ many σ ∧ (∀ a, a < many → to a = fr (σ a)) ∧ ∀ a, many ≤ a → to a = to0 a := by
  obtain ⟨σ, h1, h2⟩ := stab_ex κ many
  refine ⟨σ, h1, fun a ha => ?_, h.2.2⟩
  have := h.2.1 (σ a) (h1.1 a ha)
  rw [h2 a ha] at this
  exact this
theorem stab_pw {κ : Nat → Nat} {n : Nat} {σ fr to : Nat → Nat} {R : Nat → Nat → Prop} (h : Stab κ n σ) (ht : ∀ a, a < n → to a = fr (σ a)) (key : Nat → Nat) (hκ : ∀ k, k < n → κ k = key (fr k)) (hR : ∀ a b, a < b → b < n → R (fr a) (fr b)) : ∀ a b, a < b → b < n → key (to a) < key (to b) ∨ (key (to a) = key (to b) ∧ R (to a) (to b)) := by
  intro a b hab hb
  have ha : a < n := Nat.lt_trans hab hb
  rw [ht a ha, ht b hb, ← hκ _ (h.1 a ha), ← hκ _ (h.1 b hb)]
  rcases h.2 a b hab hb with q | ⟨q1, q2⟩
  · left; exact q
  · right; exact ⟨q1, hR _ _ q2 (h.1 b hb)⟩
/-- threes compared -/
def T3eq (s : Nat → Nat) (p q : Nat) : Prop := s p = s q ∧ s (p + 1) = s (q + 1) ∧ s (p + 2) = s (q + 2)
def T3lt (s : Nat → Nat) (p q : Nat) : Prop := s p < s q ∨ (s p = s q ∧ (s (p + 1) < s (q + 1) ∨ (s (p + 1) = s (q + 1) ∧ s (p + 2) < s (q + 2))))
def T3le (s : Nat → Nat) (p q : Nat) : Prop := s p < s q ∨ (s p = s q ∧ (s (p + 1) < s (q + 1) ∨ (s (p + 1) = s (q + 1) ∧ s (p + 2) ≤ s (q + 2))))
theorem T3_lex {s : Nat → Nat} {p q : Nat} (h : T3lt s p q) : lexLt s p q := by
  rw [lex_iff, lex_iff, lex_iff]
  unfold T3lt at h
  rcases h with h | ⟨h0, h | ⟨h1, h2⟩⟩
  · left; exact h
  · right; exact ⟨h0, Or.inl h⟩
  · right; exact ⟨h0, Or.inr ⟨h1, Or.inl h2⟩⟩
theorem T3_split {s : Nat → Nat} {p q : Nat} (h : T3le s p q) : T3lt s p q ∨ T3eq s p q := by
  unfold T3le at h
  unfold T3lt T3eq
  omega
/-- how many names are given to the first k -/
def nmc (s o : Nat → Nat) : Nat → Nat
  | 0 => 0
  | k + 1 => nmc s o k + if k = 0 ∨ ¬ (s (o k) = s (o (k - 1)) ∧ s (o k + 1) = s (o (k - 1) + 1) ∧ s (o k + 2) = s (o (k - 1) + 2)) then 1 else 0
theorem nmc_s (s o : Nat → Nat) (k : Nat) : nmc s o (k + 1) = nmc s o k + if k = 0 ∨ ¬ (s (o k) = s (o (k - 1)) ∧ s (o k + 1) = s (o (k - 1) + 1) ∧ s (o k + 2) = s (o (k - 1) + 2)) then 1 else 0 := rfl
theorem nmc_le (s o : Nat → Nat) (k : Nat) : nmc s o k ≤ k := by
  induction k with
  | zero => exact Nat.le_refl 0
  | succ k ih => rw [nmc_s]; split <;> omega
theorem nmc_mono (s o : Nat → Nat) {a b : Nat} (h : a ≤ b) : nmc s o a ≤ nmc s o b := by
  induction b with
  | zero => rw [Nat.le_zero.mp h]; exact Nat.le_refl _
  | succ b ih =>
    by_cases e : a = b + 1
    · rw [e]; exact Nat.le_refl _
    · have := ih (by omega)
      rw [nmc_s]; omega
theorem nmc_1 (s o : Nat → Nat) : nmc s o 1 = 1 := by rw [nmc_s, if_pos (Or.inl rfl)]; rfl
theorem nmc_pos (s o : Nat → Nat) (k : Nat) : 1 ≤ nmc s o (k + 1) := by
  have h := nmc_mono s o (show 1 ≤ k + 1 by omega)
  rw [nmc_1] at h
  exact h
theorem nmc_eq {s o : Nat → Nat} {a b : Nat} (hab : a ≤ b) (h : nmc s o (a + 1) = nmc s o (b + 1)) : T3eq s (o a) (o b) := by
  induction b with
  | zero => rw [show a = 0 by omega]; exact ⟨rfl, rfl, rfl⟩
  | succ b ih =>
    by_cases e : a = b + 1
    · rw [e]; exact ⟨rfl, rfl, rfl⟩
    · have h1 := nmc_mono s o (show a + 1 ≤ b + 1 by omega)
      rw [nmc_s s o (b + 1)] at h
      by_cases c : b + 1 = 0 ∨ ¬ (s (o (b + 1)) = s (o (b + 1 - 1)) ∧ s (o (b + 1) + 1) = s (o (b + 1 - 1) + 1) ∧ s (o (b + 1) + 2) = s (o (b + 1 - 1) + 2))
      · rw [if_pos c] at h; omega
      · rw [if_neg c] at h
        have c2 : s (o (b + 1)) = s (o (b + 1 - 1)) ∧ s (o (b + 1) + 1) = s (o (b + 1 - 1) + 1) ∧ s (o (b + 1) + 2) = s (o (b + 1 - 1) + 2) := Classical.not_not.mp (fun z => c (Or.inr z))
        rw [show b + 1 - 1 = b by omega] at c2
        obtain ⟨i1, i2, i3⟩ := ih (by omega) (by omega)
        exact ⟨i1.trans c2.1.symm, i2.trans c2.2.1.symm, i3.trans c2.2.2.symm⟩
theorem nmc_same {s o : Nat → Nat} {m a b : Nat} (hs : ∀ a b, a < b → b < m → T3le s (o a) (o b)) (hab : a ≤ b) (hb : b < m) (h : T3eq s (o a) (o b)) : nmc s o (a + 1) = nmc s o (b + 1) := by
  induction b with
  | zero => rw [show a = 0 by omega]
  | succ b ih =>
    by_cases e : a = b + 1
    · rw [e]
    · have h2 : T3eq s (o a) (o b) := by
        by_cases e2 : a = b
        · rw [e2]; exact ⟨rfl, rfl, rfl⟩
        · have l1 := hs a b (by omega) (by omega)
          have l2 := hs b (b + 1) (by omega) hb
          unfold T3le at l1 l2
          unfold T3eq at h ⊢
          omega
      rw [nmc_s s o (b + 1), ih (by omega) (by omega) h2, if_neg]
      · rfl
      · intro c
        rcases c with c | c
        · omega
        · apply c
          rw [show b + 1 - 1 = b by omega]
          unfold T3eq at h h2
          omega
theorem nmc_lt {s o : Nat → Nat} {m a b : Nat} (hs : ∀ a b, a < b → b < m → T3le s (o a) (o b)) (ha : a < m) (hb : b < m) (h : nmc s o (a + 1) < nmc s o (b + 1)) : T3lt s (o a) (o b) := by
  rcases Nat.lt_or_ge a b with q | q
  · rcases T3_split (hs a b q hb) with z | z
    · exact z
    · have := nmc_same hs (Nat.le_of_lt q) hb z
      omega
  · have := nmc_mono s o (show b + 1 ≤ a + 1 by omega)
    omega
theorem nmc_full {s o : Nat → Nat} {m : Nat} (h : nmc s o m = m) : ∀ k, k ≤ m → nmc s o k = k := by
  induction m with
  | zero => intro k hk; rw [show k = 0 by omega]; rfl
  | succ m ih =>
    intro k hk
    have h1 := nmc_le s o m
    have h2 : nmc s o m = m := by
      rw [nmc_s] at h
      split at h <;> omega
    by_cases e : k = m + 1
    · rw [e]; exact h
    · exact ih h2 k (by omega)
/-- the places that aren't third places, and their numbers -/
def px (n0 x : Nat) : Nat := if x < n0 then 3 * x + 1 else 3 * (x - n0) + 2
def ix (n0 p : Nat) : Nat := if p % 3 = 1 then p / 3 else p / 3 + n0
def p3 (x : Nat) : Nat := x + x / 2 + 1
theorem px_lo {n0 x : Nat} (h : x < n0) : px n0 x = 3 * x + 1 := if_pos h
theorem px_hi {n0 x : Nat} (h : n0 ≤ x) : px n0 x = 3 * (x - n0) + 2 := if_neg (by omega)
theorem ix_1 {n0 p : Nat} (h : p % 3 = 1) : ix n0 p = p / 3 := if_pos h
theorem ix_2 {n0 p : Nat} (h : p % 3 ≠ 1) : ix n0 p = p / 3 + n0 := if_neg h
theorem px_ix {n0 p : Nat} (h3 : p % 3 ≠ 0) (h : p / 3 < n0 ∨ p % 3 = 2) : px n0 (ix n0 p) = p := by
  by_cases e : p % 3 = 1
  · rw [ix_1 e, px_lo (by omega)]; omega
  · rw [ix_2 e, px_hi (by omega)]; omega
theorem ix_px {n0 x : Nat} : ix n0 (px n0 x) = x := by
  by_cases e : x < n0
  · rw [px_lo e, ix_1 (by omega)]; omega
  · rw [px_hi (by omega), ix_2 (by omega)]; omega
theorem p3_mod (x : Nat) : p3 x % 3 ≠ 0 := by unfold p3; omega
theorem p3_inj {x y : Nat} (h : p3 x = p3 y) : x = y := by unfold p3 at h; omega
section DC3
variable {n : Nat} {s : Nat → Nat}
theorem p3_lt {x : Nat} (hx : x < (n + 2) / 3 + n / 3) : p3 x < n + (n + 2) / 3 - (n + 1) / 3 := by
  unfold p3
  rcases (show n % 3 = 0 ∨ n % 3 = 1 ∨ n % 3 = 2 by omega) with h | h | h <;> rcases (show x % 2 = 0 ∨ x % 2 = 1 by omega) with g | g <;> omega
theorem ix_lt {p : Nat} (h3 : p % 3 ≠ 0) (hp : p < n + (n + 2) / 3 - (n + 1) / 3) : ix ((n + 2) / 3) p < (n + 2) / 3 + n / 3 := by
  by_cases e : p % 3 = 1
  · rw [ix_1 e]; omega
  · rw [ix_2 e]; omega
theorem px_ok {x : Nat} (hx : x < (n + 2) / 3 + n / 3) : px ((n + 2) / 3) x % 3 ≠ 0 ∧ px ((n + 2) / 3) x < n + (n + 2) / 3 - (n + 1) / 3 := by
  by_cases e : x < (n + 2) / 3
  · rw [px_lo e]; omega
  · rw [px_hi (by omega)]; omega
theorem px_inj {n0 x y : Nat} (h : px n0 x = px n0 y) : x = y := by
  have := ix_px (n0 := n0) (x := x)
  rw [h, ix_px] at this
  exact this.symm
theorem px_next {x : Nat} (hx : x < (n + 2) / 3 + n / 3) (h : px ((n + 2) / 3) x + 3 ≤ n) : (x + 1 < (n + 2) / 3 + n / 3 ∧ px ((n + 2) / 3) (x + 1) = px ((n + 2) / 3) x + 3) ∨ (x + 1 = (n + 2) / 3 + n / 3 ∧ px ((n + 2) / 3) x + 3 = n) := by
  by_cases e : x < (n + 2) / 3
  · have e0 := px_lo e
    rw [e0] at h ⊢
    left
    have : x + 1 < (n + 2) / 3 := by omega
    rw [px_lo this]
    omega
  · have e0 := px_hi (n0 := (n + 2) / 3) (x := x) (by omega)
    rw [e0] at h ⊢
    by_cases e2 : x + 1 < (n + 2) / 3 + n / 3
    · left
      rw [px_hi (x := x + 1) (by omega)]
      omega
    · right
      omega
theorem lex_zero {p q : Nat} (hz : ∀ i, n ≤ i → s i = 0) (hq : n ≤ q) : ¬ lexLt s p q := by
  rintro ⟨d, -, h⟩
  rw [hz (q + d) (by omega)] at h
  omega
/-- threes that are the same, at different places, hold no zero -/
theorem T3_nz {x y : Nat} (hp : ∀ i, i < n → 1 ≤ s i) (hz : ∀ i, n ≤ i → s i = 0) (hx : x < (n + 2) / 3 + n / 3) (hy : y < (n + 2) / 3 + n / 3) (hne : x ≠ y) (h : T3eq s (px ((n + 2) / 3) x) (px ((n + 2) / 3) y)) : px ((n + 2) / 3) x + 3 ≤ n ∧ px ((n + 2) / 3) y + 3 ≤ n := by
  have hne' : px ((n + 2) / 3) x ≠ px ((n + 2) / 3) y := fun z => hne (px_inj z)
  obtain ⟨x1, x2⟩ := px_ok hx
  obtain ⟨y1, y2⟩ := px_ok hy
  generalize px ((n + 2) / 3) x = u at *
  generalize px ((n + 2) / 3) y = v at *
  obtain ⟨e0, e1, e2⟩ := h
  have zi : ∀ i, s i = 0 ↔ n ≤ i := fun i => ⟨fun z => by
    rcases Nat.lt_or_ge i n with q | q
    · have := hp i q; omega
    · exact q, hz i⟩
  have a0 := zi u
  have a1 := zi (u + 1)
  have a2 := zi (u + 2)
  have b0 := zi v
  have b1 := zi (v + 1)
  have b2 := zi (v + 2)
  rw [e0] at a0
  rw [e1] at a1
  rw [e2] at a2
  have c0 := a0.symm.trans b0
  have c1 := a1.symm.trans b1
  have c2 := a2.symm.trans b2
  omega
/-- suffixes of the row of names stand as the suffixes themselves -/
theorem lex_names {R : Nat → Nat} (hp : ∀ i, i < n → 1 ≤ s i) (hz : ∀ i, n ≤ i → s i = 0) (hRz : ∀ x, (n + 2) / 3 + n / 3 ≤ x → R x = 0) (hR1 : ∀ x, x < (n + 2) / 3 + n / 3 → 1 ≤ R x)
    (hEq : ∀ x y, x < (n + 2) / 3 + n / 3 → y < (n + 2) / 3 + n / 3 → R x = R y → T3eq s (px ((n + 2) / 3) x) (px ((n + 2) / 3) y)) (hLt : ∀ x y, x < (n + 2) / 3 + n / 3 → y < (n + 2) / 3 + n / 3 → R x < R y → T3lt s (px ((n + 2) / 3) x) (px ((n + 2) / 3) y)) :
    ∀ (d x y : Nat), x < (n + 2) / 3 + n / 3 → y < (n + 2) / 3 + n / 3 → (∀ t, t < d → R (x + t) = R (y + t)) → R (x + d) < R (y + d) → lexLt s (px ((n + 2) / 3) x) (px ((n + 2) / 3) y) := by
  intro d
  induction d with
  | zero => intro x y hx hy _ h; exact T3_lex (hLt x y hx hy h)
  | succ d ih =>
    intro x y hx hy h0 h1
    have hxy : x ≠ y := fun z => by rw [z] at h1; omega
    have he := hEq x y hx hy (h0 0 (Nat.succ_pos d))
    obtain ⟨nx, ny⟩ := T3_nz hp hz hx hy hxy he
    have step : lexLt s (px ((n + 2) / 3) x + 3) (px ((n + 2) / 3) y + 3) → lexLt s (px ((n + 2) / 3) x) (px ((n + 2) / 3) y) := by
      intro h
      rw [lex_iff, lex_iff, lex_iff]
      exact Or.inr ⟨he.1, Or.inr ⟨he.2.1, Or.inr ⟨he.2.2, h⟩⟩⟩
    refine step ?_
    have h0' : ∀ t, t < d → R (x + 1 + t) = R (y + 1 + t) := fun t ht => by
      have := h0 (t + 1) (by omega)
      rw [show x + 1 + t = x + (t + 1) by omega, show y + 1 + t = y + (t + 1) by omega]
      exact this
    have h1' : R (x + 1 + d) < R (y + 1 + d) := by
      rw [show x + 1 + d = x + (d + 1) by omega, show y + 1 + d = y + (d + 1) by omega]
      exact h1
    rcases px_next hx nx with ⟨a1, a2⟩ | ⟨a1, a2⟩
    · rcases px_next hy ny with ⟨b1, b2⟩ | ⟨b1, b2⟩
      · rw [← a2, ← b2]
        exact ih (x + 1) (y + 1) a1 b1 h0' h1'
      · rw [hRz (y + 1 + d) (by omega)] at h1'
        omega
    · rw [a2]
      have hne' : px ((n + 2) / 3) x ≠ px ((n + 2) / 3) y := fun z => hxy (px_inj z)
      have hlt : px ((n + 2) / 3) y + 3 < n := by omega
      rw [lex_iff]
      left
      rw [hz n (Nat.le_refl n)]
      exact hp _ hlt
/-- a suffix of two thirds against one of the other third, by numbers and ranks -/
def nAft (a b c d : Nat) : Prop := a < c ∨ (a = c ∧ b ≤ d)
theorem first_lo {rk : Nat → Nat} {x j : Nat} (hp : ∀ i, i < n → 1 ≤ s i) (hz : ∀ i, n ≤ i → s i = 0) (hrk : ∀ x y, x < (n + 2) / 3 + n / 3 → y < (n + 2) / 3 + n / 3 → (rk x < rk y ↔ lexLt s (px ((n + 2) / 3) x) (px ((n + 2) / 3) y))) (hr1 : ∀ x, x < (n + 2) / 3 + n / 3 → 1 ≤ rk x) (hr0 : ∀ x, (n + 2) / 3 + n / 3 ≤ x → rk x = 0) (hri : ∀ x y, x < (n + 2) / 3 + n / 3 → y < (n + 2) / 3 + n / 3 → rk x = rk y → x = y)
    (hx : x < (n + 2) / 3) (hxn : 3 * x + 1 < n) (hj : j < n) (hj3 : j % 3 = 0) : nAft (s (3 * x + 1)) (rk (x + (n + 2) / 3)) (s j) (rk (j / 3)) ↔ lexLt s (3 * x + 1) j := by
  have key : rk (x + (n + 2) / 3) ≤ rk (j / 3) ↔ lexLt s (3 * x + 1 + 1) (j + 1) := by
    have hjj : px ((n + 2) / 3) (j / 3) = j + 1 := by rw [px_lo (by omega)]; omega
    by_cases e : x + (n + 2) / 3 < (n + 2) / 3 + n / 3
    · have h1 := hrk (x + (n + 2) / 3) (j / 3) e (by omega)
      have hxx : px ((n + 2) / 3) (x + (n + 2) / 3) = 3 * x + 1 + 1 := by rw [px_hi (by omega)]; omega
      rw [hxx, hjj] at h1
      rw [← h1]
      constructor
      · intro h
        rcases Nat.lt_or_ge (rk (x + (n + 2) / 3)) (rk (j / 3)) with q | q
        · exact q
        · have := hri _ _ e (by omega) (Nat.le_antisymm h q)
          omega
      · exact Nat.le_of_lt
    · constructor
      · intro _
        rw [lex_iff]
        left
        rw [hz _ (by omega)]
        exact hp _ (by omega)
      · intro _
        rw [hr0 _ (by omega)]
        exact Nat.zero_le _
  unfold nAft
  rw [key, lex_iff s (3 * x + 1) j]
theorem first_hi {rk : Nat → Nat} {x j : Nat} (hp : ∀ i, i < n → 1 ≤ s i) (hz : ∀ i, n ≤ i → s i = 0) (hrk : ∀ x y, x < (n + 2) / 3 + n / 3 → y < (n + 2) / 3 + n / 3 → (rk x < rk y ↔ lexLt s (px ((n + 2) / 3) x) (px ((n + 2) / 3) y))) (hr1 : ∀ x, x < (n + 2) / 3 + n / 3 → 1 ≤ rk x) (hr0 : ∀ x, (n + 2) / 3 + n / 3 ≤ x → rk x = 0) (hri : ∀ x y, x < (n + 2) / 3 + n / 3 → y < (n + 2) / 3 + n / 3 → rk x = rk y → x = y)
    (hx : (n + 2) / 3 ≤ x) (hx2 : x < (n + 2) / 3 + n / 3) (hj : j < n) (hj3 : j % 3 = 0) : (s (3 * (x - (n + 2) / 3) + 2) < s j ∨ (s (3 * (x - (n + 2) / 3) + 2) = s j ∧ nAft (s (3 * (x - (n + 2) / 3) + 2 + 1)) (rk (x - (n + 2) / 3 + 1)) (s (j + 1)) (rk (j / 3 + (n + 2) / 3)))) ↔ lexLt s (3 * (x - (n + 2) / 3) + 2) j := by
  have hin : 3 * (x - (n + 2) / 3) + 2 < n := by omega
  have key : s (3 * (x - (n + 2) / 3) + 2 + 1) = s (j + 1) → (rk (x - (n + 2) / 3 + 1) ≤ rk (j / 3 + (n + 2) / 3) ↔ lexLt s (3 * (x - (n + 2) / 3) + 2 + 1 + 1) (j + 1 + 1)) := by
    intro he
    have hb : x - (n + 2) / 3 + 1 < (n + 2) / 3 := by
      rcases Nat.lt_or_ge (x - (n + 2) / 3 + 1) ((n + 2) / 3) with q | q
      · exact q
      · exfalso
        rw [hz (3 * (x - (n + 2) / 3) + 2 + 1) (by omega)] at he
        have := hp (j + 1) (by omega)
        omega
    have hxx : px ((n + 2) / 3) (x - (n + 2) / 3 + 1) = 3 * (x - (n + 2) / 3) + 2 + 1 + 1 := by rw [px_lo hb]; omega
    by_cases e : j / 3 + (n + 2) / 3 < (n + 2) / 3 + n / 3
    · have h1 := hrk (x - (n + 2) / 3 + 1) (j / 3 + (n + 2) / 3) (by omega) e
      have hjj : px ((n + 2) / 3) (j / 3 + (n + 2) / 3) = j + 1 + 1 := by rw [px_hi (by omega)]; omega
      rw [hxx, hjj] at h1
      rw [← h1]
      constructor
      · intro h
        rcases Nat.lt_or_ge (rk (x - (n + 2) / 3 + 1)) (rk (j / 3 + (n + 2) / 3)) with q | q
        · exact q
        · have := hri _ _ (by omega) e (Nat.le_antisymm h q)
          omega
      · exact Nat.le_of_lt
    · rw [hr0 (j / 3 + (n + 2) / 3) (by omega)]
      have h1 := hr1 (x - (n + 2) / 3 + 1) (by omega)
      constructor
      · intro h; omega
      · intro h
        by_cases hj2 : n ≤ j + 1 + 1
        · exact absurd h (lex_zero hz hj2)
        · exfalso; omega
  unfold nAft
  rw [lex_iff s (3 * (x - (n + 2) / 3) + 2) j, lex_iff s (3 * (x - (n + 2) / 3) + 2 + 1) (j + 1)]
  constructor
  · rintro (h | ⟨h0, h | ⟨h1, h2⟩⟩)
    · exact Or.inl h
    · exact Or.inr ⟨h0, Or.inl h⟩
    · exact Or.inr ⟨h0, Or.inr ⟨h1, (key h1).mp h2⟩⟩
  · rintro (h | ⟨h0, h | ⟨h1, h2⟩⟩)
    · exact Or.inl h
    · exact Or.inr ⟨h0, Or.inl h⟩
    · exact Or.inr ⟨h0, Or.inr ⟨h1, (key h1).mpr h2⟩⟩
end DC3
/-- two sorted rows put together -/
def MI (s U V : Nat → Nat) (n n0 n02 k p t : Nat) (o : Nat → Nat) : Prop := (∀ a b, a < b → b < k → lexLt s (o a) (o b)) ∧ (∀ a, a < k → o a < n) ∧ (∀ a t', a < k → t ≤ t' → t' < n02 → lexLt s (o a) (U t')) ∧ (∀ a p', a < k → p ≤ p' → p' < n0 → lexLt s (o a) (V p'))
theorem MI_0 {s U V : Nat → Nat} {n n0 n02 p t : Nat} {o : Nat → Nat} : MI s U V n n0 n02 0 p t o := ⟨fun _ _ _ h => absurd h (Nat.not_lt_zero _), fun _ h => absurd h (Nat.not_lt_zero _), fun _ _ h => absurd h (Nat.not_lt_zero _), fun _ _ h => absurd h (Nat.not_lt_zero _)⟩
theorem MI_U {s U V : Nat → Nat} {n n0 n02 k p t : Nat} {o : Nat → Nat} (h : MI s U V n n0 n02 k p t o) (ht : t < n02) (hU : ∀ a b, t ≤ a → a < b → b < n02 → lexLt s (U a) (U b)) (hV : ∀ a b, a < b → b < n0 → lexLt s (V a) (V b)) (hn : U t < n) (hf : p < n0 → lexLt s (U t) (V p)) : MI s U V n n0 n02 (k + 1) p (t + 1) (upN o k (U t)) := by
  obtain ⟨h1, h2, h3, h4⟩ := h
  refine ⟨fun a b hab hb => ?_, fun a ha => ?_, fun a t' ha h5 h6 => ?_, fun a p' ha h5 h6 => ?_⟩
  · by_cases e : b = k
    · subst e
      rw [upN_same, upN_ne (by omega)]
      exact h3 a t hab (Nat.le_refl t) ht
    · rw [upN_ne (by omega), upN_ne e]
      exact h1 a b hab (by omega)
  · by_cases e : a = k
    · subst e; rw [upN_same]; exact hn
    · rw [upN_ne e]; exact h2 a (by omega)
  · by_cases e : a = k
    · subst e; rw [upN_same]; exact hU t t' (Nat.le_refl t) (by omega) h6
    · rw [upN_ne e]; exact h3 a t' (by omega) (by omega) h6
  · by_cases e : a = k
    · subst e
      rw [upN_same]
      have hq := hf (by omega)
      by_cases e2 : p = p'
      · rw [← e2]; exact hq
      · exact lex_trans hq (hV p p' (by omega) h6)
    · rw [upN_ne e]; exact h4 a p' (by omega) h5 h6
theorem MI_V {s U V : Nat → Nat} {n n0 n02 k p t : Nat} {o : Nat → Nat} (h : MI s U V n n0 n02 k p t o) (hp : p < n0) (hU : ∀ a b, t ≤ a → a < b → b < n02 → lexLt s (U a) (U b)) (hV : ∀ a b, a < b → b < n0 → lexLt s (V a) (V b)) (hn : V p < n) (hf : t < n02 → lexLt s (V p) (U t)) : MI s U V n n0 n02 (k + 1) (p + 1) t (upN o k (V p)) := by
  obtain ⟨h1, h2, h3, h4⟩ := h
  refine ⟨fun a b hab hb => ?_, fun a ha => ?_, fun a t' ha h5 h6 => ?_, fun a p' ha h5 h6 => ?_⟩
  · by_cases e : b = k
    · subst e
      rw [upN_same, upN_ne (by omega)]
      exact h4 a p hab (Nat.le_refl p) hp
    · rw [upN_ne (by omega), upN_ne e]
      exact h1 a b hab (by omega)
  · by_cases e : a = k
    · subst e; rw [upN_same]; exact hn
    · rw [upN_ne e]; exact h2 a (by omega)
  · by_cases e : a = k
    · subst e
      rw [upN_same]
      have hq := hf (by omega)
      by_cases e2 : t = t'
      · rw [← e2]; exact hq
      · exact lex_trans hq (hU t t' (Nat.le_refl t) (by omega) h6)
    · rw [upN_ne e]; exact h3 a t' (by omega) h5 h6
  · by_cases e : a = k
    · subst e; rw [upN_same]; exact hV p p' (by omega) h6
    · rw [upN_ne e]; exact h4 a p' (by omega) (by omega) h6
end
section
set_option maxHeartbeats 4000000 in
set_option maxRecDepth 100000 in
/-- pass: the places of the first row, stably by the numbers there -/
theorem met_pass (l : Launch) (D : va_G) (dA : ClassId) (hs hc hf ht ho : Nat) (cnt0 fr to0 of_ : Nat → Nat) (Lf Lt Lo sh many most : Nat) (hm : most < 264) (hLf : Lf < 10000) (hLt : Lt < 10000) (hLo : Lo < 10000) (hsh : sh < 10000) (h1 : many ≤ Lf) (h2 : many ≤ Lt) (h3 : ∀ k, k < many → fr k + sh < Lo) (h4 : ∀ k, k < many → of_ (fr k + sh) ≤ most) :
    CTV l D dA yX1_pass cX1_pass 10 ({ frames := 0, cells := 0, slots := 0, locals := 0 } : Room) [.ref hs, .ref hf, .ref ht, .ref ho, .int (nI sh), .int (nI many), .int (nI most)] [(hs, .inr (1, [.ref hc])), (hc, ar dA 264 cnt0), (hf, ar dA Lf fr), (ht, ar dA Lt to0), (ho, ar dA Lo of_)] (fun u : (Nat → Nat) × (Nat → Nat) => ∃ σ, Stab (fun k => of_ (fr k + sh)) many σ ∧ (∀ a, a < many → u.2 a = fr (σ a)) ∧ ∀ a, many ≤ a → u.2 a = to0 a) (fun u => [(hs, .inr (1, [.ref hc])), (hc, ar dA 264 u.1), (hf, ar dA Lf fr), (ht, ar dA Lt u.2), (ho, ar dA Lo of_)]) := by
  refine CTV.intro (by decide) (Nat.le_of_ble_eq_true rfl) ?_
  intro M A F hin
  have F : FX M l D dA A cX1_pass 10 RX1 none ({ frames := 0, cells := 0, slots := 0, locals := 0 } : Room) := F
  generalize hQ : QV M D dA A _ _ _ = Q
  have L4 : ∀ (n k : Nat) (cnt to : Nat → Nat), k ≤ many → many < k + n → I4 (fun k => of_ (fr k + sh)) most many fr to0 k cnt to → WW M D A 10 Q [(hs, .inr (1, [.ref hc])), (hc, ar dA 264 cnt), (hf, ar dA Lf fr), (ht, ar dA Lt to), (ho, ar dA Lo of_)] 0 0 105 [(0, .ref hs), (1, .ref hf), (2, .ref ht), (3, .ref ho), (4, .int (nI sh)), (5, .int (nI many)), (6, .int (nI most)), (8, .int (nI k))] [] := by
    intro n
    induction n with
    | zero => intro k cnt to hk hn hI; exfalso; omega
    | succ n ih =>
      intro k cnt to hk hn hI
      refine w_iload F dX1_pass_105 7 rfl ?_
      refine w_iload F dX1_pass_107 5 rfl ?_
      refine w_icmp_ge F 153 dX1_pass_109 (by decide) (by omega) (by omega) (fun c => ?_) (fun c => ?_)
      · skip
        have e : many = k := by omega
        subst e
        rw [← hQ]
        exact w_vret F dX1_pass_153 (cnt, to) (I4_end hI) [0, 1, 2, 3, 4] rfl (by decide) (by decide) (by decide)
      · skip
        have b3 := h3 k c
        have b4 := h4 k c
        have b5 := I4_at hI b4
        have b6 := pos_lt (κ := (fun k => of_ (fr k + sh))) c
        have b7 := I4_step hI c b4
        have b5 : cnt (of_ (fr k + sh)) = pos (fun k => of_ (fr k + sh)) many k := b5
        refine w_aload_n F dX1_pass_112 3 rfl ?_
        refine w_aload_n F dX1_pass_113 1 rfl ?_
        refine w_iload F dX1_pass_114 7 rfl ?_
        refine w_iald F 2 rfl dX1_pass_116 (by omega) (by omega) ?_
        refine w_iload F dX1_pass_117 4 rfl ?_
        refine w_iadd F dX1_pass_119 ?_
        refine w_iald F 4 rfl dX1_pass_120 (by omega) (by omega) ?_
        refine w_istore F [(0, .ref hs), (1, .ref hf), (2, .ref ht), (3, .ref ho), (4, .int (nI sh)), (5, .int (nI many)), (6, .int (nI most)), (8, .int (nI k)), (9, .int (nI (of_ ((fr k) + sh))))] dX1_pass_121 (by decide) rfl rfl ?_
        refine w_aload_n F dX1_pass_123 2 rfl ?_
        refine w_aload_n F dX1_pass_124 0 rfl ?_
        refine w_get F 0 in_X1 rfl rfl 0 (by decide) q27 rfl dX1_pass_125 ?_
        refine w_iload F dX1_pass_128 8 rfl ?_
        refine w_iald F 1 rfl dX1_pass_130 (by omega) (by omega) ?_
        refine w_aload_n F dX1_pass_131 1 rfl ?_
        refine w_iload F dX1_pass_132 7 rfl ?_
        refine w_iald F 2 rfl dX1_pass_134 (by omega) (by omega) ?_
        refine w_iast F 3 ([(hs, .inr (1, [.ref hc])), (hc, ar dA 264 cnt), (hf, ar dA Lf fr), (ht, ar dA Lt (upN to (cnt (of_ ((fr k) + sh))) (fr k))), (ho, ar dA Lo of_)]) rfl dX1_pass_135 (by omega) (by omega) rfl ?_
        refine w_aload_n F dX1_pass_136 0 rfl ?_
        refine w_get F 0 in_X1 rfl rfl 0 (by decide) q27 rfl dX1_pass_137 ?_
        refine w_iload F dX1_pass_140 8 rfl ?_
        refine w_dup2 F dX1_pass_142 rfl rfl ?_
        refine w_iald F 1 rfl dX1_pass_143 (by omega) (by omega) ?_
        refine w_iconst F (nI 1) dX1_pass_144 (by decide) ?_
        refine w_iadd F dX1_pass_145 ?_
        refine w_iast F 1 ([(hs, .inr (1, [.ref hc])), (hc, ar dA 264 (upN cnt (of_ ((fr k) + sh)) ((cnt (of_ ((fr k) + sh))) + 1))), (hf, ar dA Lf fr), (ht, ar dA Lt (upN to (cnt (of_ ((fr k) + sh))) (fr k))), (ho, ar dA Lo of_)]) rfl dX1_pass_146 (by omega) (by omega) rfl ?_
        refine w_iinc F (v := (nI (k + 1))) [(0, .ref hs), (1, .ref hf), (2, .ref ht), (3, .ref ho), (4, .int (nI sh)), (5, .int (nI many)), (6, .int (nI most)), (8, .int (nI (k + 1))), (9, .int (nI (of_ ((fr k) + sh))))] dX1_pass_147 7 rfl (nI_add k 1) (by decide) rfl rfl ?_
        refine w_goto F 105 dX1_pass_150 (by decide) ?_
        refine w_lsub [0, 1, 2, 3, 4, 5, 6, 7] rfl ?_
        exact ih (k + 1) _ _ (by omega) (by omega) b7
  have L3 : ∀ (n k sum : Nat) (cnt : Nat → Nat), k ≤ most + 1 → most + 1 < k + n → I3 (fun k => of_ (fr k + sh)) most many k cnt sum → WW M D A 10 Q [(hs, .inr (1, [.ref hc])), (hc, ar dA 264 cnt), (hf, ar dA Lf fr), (ht, ar dA Lt to0), (ho, ar dA Lo of_)] 0 0 64 [(0, .ref hs), (1, .ref hf), (2, .ref ht), (3, .ref ho), (4, .int (nI sh)), (5, .int (nI many)), (6, .int (nI most)), (7, .int (nI sum)), (8, .int (nI k))] [] := by
    intro n
    induction n with
    | zero => intro k sum cnt hk hn hI; exfalso; omega
    | succ n ih =>
      intro k sum cnt hk hn hI
      have hs1 := hI.1
      have hs2 := cl_le (fun k => of_ (fr k + sh)) k many
      refine w_iload F dX1_pass_64 8 rfl ?_
      refine w_iload F dX1_pass_66 6 rfl ?_
      refine w_icmp_gt F 102 dX1_pass_68 (by decide) (by omega) (by omega) (fun c => ?_) (fun c => ?_)
      · skip
        refine w_iconst F (nI 0) dX1_pass_102 (by decide) ?_
        refine w_istore F [(0, .ref hs), (1, .ref hf), (2, .ref ht), (3, .ref ho), (4, .int (nI sh)), (5, .int (nI many)), (6, .int (nI most)), (7, .int (nI sum)), (8, .int (nI 0))] dX1_pass_103 (by decide) rfl rfl ?_
        refine w_lsub [0, 1, 2, 3, 4, 5, 6, 8] rfl ?_
        refine L4 (many + 1) 0 _ _ (by omega) (by omega) ⟨fun v hv => ?_, fun j hj => absurd hj (Nat.not_lt_zero j), fun _ _ => rfl⟩
        exact hI.2.1 v (by omega)
      · skip
        have b7 := I3_step hI c
        refine w_aload_n F dX1_pass_71 0 rfl ?_
        refine w_get F 0 in_X1 rfl rfl 0 (by decide) q27 rfl dX1_pass_72 ?_
        refine w_iload F dX1_pass_75 8 rfl ?_
        refine w_iald F 1 rfl dX1_pass_77 (by omega) (by omega) ?_
        refine w_istore F [(0, .ref hs), (1, .ref hf), (2, .ref ht), (3, .ref ho), (4, .int (nI sh)), (5, .int (nI many)), (6, .int (nI most)), (7, .int (nI sum)), (8, .int (nI k)), (9, .int (nI (cnt k)))] dX1_pass_78 (by decide) rfl rfl ?_
        refine w_aload_n F dX1_pass_80 0 rfl ?_
        refine w_get F 0 in_X1 rfl rfl 0 (by decide) q27 rfl dX1_pass_81 ?_
        refine w_iload F dX1_pass_84 8 rfl ?_
        refine w_iload F dX1_pass_86 7 rfl ?_
        refine w_iast F 1 ([(hs, .inr (1, [.ref hc])), (hc, ar dA 264 (upN cnt k sum)), (hf, ar dA Lf fr), (ht, ar dA Lt to0), (ho, ar dA Lo of_)]) rfl dX1_pass_88 (by omega) (by omega) rfl ?_
        refine w_iload F dX1_pass_89 7 rfl ?_
        refine w_iload F dX1_pass_91 9 rfl ?_
        refine w_iadd F dX1_pass_93 ?_
        refine w_istore F [(0, .ref hs), (1, .ref hf), (2, .ref ht), (3, .ref ho), (4, .int (nI sh)), (5, .int (nI many)), (6, .int (nI most)), (7, .int (nI (sum + (cnt k)))), (8, .int (nI k)), (9, .int (nI (cnt k)))] dX1_pass_94 (by decide) rfl rfl ?_
        refine w_iinc F (v := (nI (k + 1))) [(0, .ref hs), (1, .ref hf), (2, .ref ht), (3, .ref ho), (4, .int (nI sh)), (5, .int (nI many)), (6, .int (nI most)), (7, .int (nI (sum + (cnt k)))), (8, .int (nI (k + 1))), (9, .int (nI (cnt k)))] dX1_pass_96 8 rfl (nI_add k 1) (by decide) rfl rfl ?_
        refine w_goto F 64 dX1_pass_99 (by decide) ?_
        refine w_lsub [0, 1, 2, 3, 4, 5, 6, 7, 8] rfl ?_
        exact ih (k + 1) _ _ (by omega) (by omega) b7
  have L2 : ∀ (n k : Nat) (cnt : Nat → Nat), k ≤ many → many < k + n → I2 (fun k => of_ (fr k + sh)) most k cnt → WW M D A 10 Q [(hs, .inr (1, [.ref hc])), (hc, ar dA 264 cnt), (hf, ar dA Lf fr), (ht, ar dA Lt to0), (ho, ar dA Lo of_)] 0 0 27 [(0, .ref hs), (1, .ref hf), (2, .ref ht), (3, .ref ho), (4, .int (nI sh)), (5, .int (nI many)), (6, .int (nI most)), (7, .int (nI k))] [] := by
    intro n
    induction n with
    | zero => intro k cnt hk hn hI; exfalso; omega
    | succ n ih =>
      intro k cnt hk hn hI
      refine w_iload F dX1_pass_27 7 rfl ?_
      refine w_iload F dX1_pass_29 5 rfl ?_
      refine w_icmp_ge F 58 dX1_pass_31 (by decide) (by omega) (by omega) (fun c => ?_) (fun c => ?_)
      · skip
        have e : many = k := by omega
        subst e
        refine w_iconst F (nI 0) dX1_pass_58 (by decide) ?_
        refine w_istore F [(0, .ref hs), (1, .ref hf), (2, .ref ht), (3, .ref ho), (4, .int (nI sh)), (5, .int (nI many)), (6, .int (nI most)), (7, .int (nI 0))] dX1_pass_59 (by decide) rfl rfl ?_
        refine w_iconst F (nI 0) dX1_pass_61 (by decide) ?_
        refine w_istore F [(0, .ref hs), (1, .ref hf), (2, .ref ht), (3, .ref ho), (4, .int (nI sh)), (5, .int (nI many)), (6, .int (nI most)), (7, .int (nI 0)), (8, .int (nI 0))] dX1_pass_62 (by decide) rfl rfl ?_
        exact L3 (most + 2) 0 0 _ (by omega) (by omega) ⟨(cl_0 _ _).symm, fun v hv => absurd hv (Nat.not_lt_zero v), fun v _ hv => hI v hv⟩
      · skip
        have b3 := h3 k c
        have b4 := h4 k c
        have b7 := I2_step hI b4
        refine w_aload_n F dX1_pass_34 0 rfl ?_
        refine w_get F 0 in_X1 rfl rfl 0 (by decide) q27 rfl dX1_pass_35 ?_
        refine w_aload_n F dX1_pass_38 3 rfl ?_
        refine w_aload_n F dX1_pass_39 1 rfl ?_
        refine w_iload F dX1_pass_40 7 rfl ?_
        refine w_iald F 2 rfl dX1_pass_42 (by omega) (by omega) ?_
        refine w_iload F dX1_pass_43 4 rfl ?_
        refine w_iadd F dX1_pass_45 ?_
        refine w_iald F 4 rfl dX1_pass_46 (by omega) (by omega) ?_
        refine w_dup2 F dX1_pass_47 rfl rfl ?_
        refine w_iald F 1 rfl dX1_pass_48 (by omega) (by omega) ?_
        refine w_iconst F (nI 1) dX1_pass_49 (by decide) ?_
        refine w_iadd F dX1_pass_50 ?_
        refine w_iast F 1 ([(hs, .inr (1, [.ref hc])), (hc, ar dA 264 (upN cnt (of_ ((fr k) + sh)) ((cnt (of_ ((fr k) + sh))) + 1))), (hf, ar dA Lf fr), (ht, ar dA Lt to0), (ho, ar dA Lo of_)]) rfl dX1_pass_51 (by omega) (by omega) rfl ?_
        refine w_iinc F (v := (nI (k + 1))) [(0, .ref hs), (1, .ref hf), (2, .ref ht), (3, .ref ho), (4, .int (nI sh)), (5, .int (nI many)), (6, .int (nI most)), (7, .int (nI (k + 1)))] dX1_pass_52 7 rfl (nI_add k 1) (by decide) rfl rfl ?_
        refine w_goto F 27 dX1_pass_55 (by decide) ?_
        exact ih (k + 1) _ (by omega) (by omega) b7
  have L1 : ∀ (n k : Nat) (cnt : Nat → Nat), k ≤ most + 1 → most + 1 < k + n → (∀ j, j < k → cnt j = 0) → WW M D A 10 Q [(hs, .inr (1, [.ref hc])), (hc, ar dA 264 cnt), (hf, ar dA Lf fr), (ht, ar dA Lt to0), (ho, ar dA Lo of_)] 0 0 3 [(0, .ref hs), (1, .ref hf), (2, .ref ht), (3, .ref ho), (4, .int (nI sh)), (5, .int (nI many)), (6, .int (nI most)), (7, .int (nI k))] [] := by
    intro n
    induction n with
    | zero => intro k cnt hk hn hI; exfalso; omega
    | succ n ih =>
      intro k cnt hk hn hI
      refine w_iload F dX1_pass_3 7 rfl ?_
      refine w_iload F dX1_pass_5 6 rfl ?_
      refine w_icmp_gt F 24 dX1_pass_7 (by decide) (by omega) (by omega) (fun c => ?_) (fun c => ?_)
      · skip
        refine w_iconst F (nI 0) dX1_pass_24 (by decide) ?_
        refine w_istore F [(0, .ref hs), (1, .ref hf), (2, .ref ht), (3, .ref ho), (4, .int (nI sh)), (5, .int (nI many)), (6, .int (nI most)), (7, .int (nI 0))] dX1_pass_25 (by decide) rfl rfl ?_
        exact L2 (many + 1) 0 _ (by omega) (by omega) (fun v hv => hI v (by omega))
      · skip
        refine w_aload_n F dX1_pass_10 0 rfl ?_
        refine w_get F 0 in_X1 rfl rfl 0 (by decide) q27 rfl dX1_pass_11 ?_
        refine w_iload F dX1_pass_14 7 rfl ?_
        refine w_iconst F (nI 0) dX1_pass_16 (by decide) ?_
        refine w_iast F 1 ([(hs, .inr (1, [.ref hc])), (hc, ar dA 264 (upN cnt k 0)), (hf, ar dA Lf fr), (ht, ar dA Lt to0), (ho, ar dA Lo of_)]) rfl dX1_pass_17 (by omega) (by omega) rfl ?_
        refine w_iinc F (v := (nI (k + 1))) [(0, .ref hs), (1, .ref hf), (2, .ref ht), (3, .ref ho), (4, .int (nI sh)), (5, .int (nI many)), (6, .int (nI most)), (7, .int (nI (k + 1)))] dX1_pass_18 7 rfl (nI_add k 1) (by decide) rfl rfl ?_
        refine w_goto F 3 dX1_pass_21 (by decide) ?_
        refine ih (k + 1) _ (by omega) (by omega) (fun j hj => ?_)
        by_cases e : j = k
        · rw [e, upN_same]
        · rw [upN_ne e]; exact hI j (by omega)
  show WW M D A 10 Q _ 0 0 0 [(0, .ref hs), (1, .ref hf), (2, .ref ht), (3, .ref ho), (4, .int (nI sh)), (5, .int (nI many)), (6, .int (nI most))] []
  refine w_iconst F (nI 0) dX1_pass_0 (by decide) ?_
  refine w_istore F [(0, .ref hs), (1, .ref hf), (2, .ref ht), (3, .ref ho), (4, .int (nI sh)), (5, .int (nI many)), (6, .int (nI most)), (7, .int (nI 0))] dX1_pass_1 (by decide) rfl rfl ?_
  exact L1 (most + 2) 0 _ (by omega) (by omega) (fun j hj => absurd hj (Nat.not_lt_zero j))
end
section
theorem lt31 {x : Nat} (h : x < 1000) : x < 2 ^ 31 := by omega
theorem rs_dec {x : Nat} (h : 0 < x) : nI x + Int32.ofInt (-1) = nI (x - 1) := by
  have h1 := pk_m1 (x - 1)
  rw [show x - 1 + 1 = x by omega] at h1
  exact h1
theorem nam_X0_init : Nam yX0_init 0 := by unfold Nam; decide +kernel
theorem nam_X0_put : Nam yX0_put 4 := by unfold Nam; decide +kernel
theorem nam_X0_repeat : Nam yX0_repeat 2 := by unfold Nam; decide +kernel
theorem nam_X0_turn : Nam yX0_turn 0 := by unfold Nam; decide +kernel
theorem nam_X0_period : Nam yX0_period 0 := by unfold Nam; decide +kernel
theorem nam_X0_least : Nam yX0_least 1 := by unfold Nam; decide +kernel
theorem nam_X0_name : Nam yX0_name 2 := by unfold Nam; decide +kernel
theorem nam_X0_goBack : Nam yX0_goBack 1 := by unfold Nam; decide +kernel
theorem nam_X0_at : Nam yX0_at 1 := by unfold Nam; decide +kernel
theorem nam_X0_back : Nam yX0_back 1 := by unfold Nam; decide +kernel
theorem nam_X0_clear : Nam yX0_clear 0 := by unfold Nam; decide +kernel
theorem nam_X1_init : Nam yX1_init 0 := by unfold Nam; decide +kernel
theorem nam_X1_sort : Nam yX1_sort 4 := by unfold Nam; decide +kernel
theorem nam_X1_pass : Nam yX1_pass 6 := by unfold Nam; decide +kernel
theorem nam_X1_named : Nam yX1_named 5 := by unfold Nam; decide +kernel
theorem nam_X1_merge : Nam yX1_merge 6 := by unfold Nam; decide +kernel
theorem nam_X1_isFirst : Nam yX1_isFirst 5 := by unfold Nam; decide +kernel
theorem nam_X1_notAfter : Nam yX1_notAfter 4 := by unfold Nam; decide +kernel
theorem nam_X2_init : Nam yX2_init 0 := by unfold Nam; decide +kernel
theorem nam_X2_put : Nam yX2_put 4 := by unfold Nam; decide +kernel
theorem nam_X2_repeat : Nam yX2_repeat 2 := by unfold Nam; decide +kernel
theorem nam_X2_turn : Nam yX2_turn 0 := by unfold Nam; decide +kernel
theorem nam_X2_before : Nam yX2_before 2 := by unfold Nam; decide +kernel
theorem nam_X2_at : Nam yX2_at 1 := by unfold Nam; decide +kernel
theorem nam_X2_back : Nam yX2_back 1 := by unfold Nam; decide +kernel
theorem nam_X2_clear : Nam yX2_clear 0 := by unfold Nam; decide +kernel
theorem nam_J0_min : Nam yJ0_min 2 := by unfold Nam; decide +kernel
theorem w_mmin {M : MC} {l : Launch} {D : va_G} {dA : ClassId} {A : Nat → Prop} {cc : ByteArray} {nL : Nat} {own : String} {rt : Option FieldType} {rm : Room} {Q : State → Prop} {ws : va_W} {cells slots pc : Nat} {lv : List (Nat × Value)} {st : List Value} (F : FX M l D dA A cc nL own rt rm) {a b idx : Nat} (hw : Cond.methodLink own idx Lib.Math.min.name ∈ lw_all) (hdg : decode cc pc = .ok (.invokestatic idx, 3)) (h1 : 1 ≤ rm.frames) (h2 : (st.map fun v => v.category).sum + 13 ≤ rm.locals) (hc : cells ≤ rm.cells) (hs : slots ≤ rm.slots) (ha : a < 2 ^ 31) (hb : b < 2 ^ 31) (kk : WW M D A nL Q ws cells slots (pc + 3) lv (.int (nI (min a b)) :: st)) : WW M D A nL Q ws cells slots pc lv (.int (nI b) :: .int (nI a) :: st) := by
  intro H locs ls hP hD hS hl
  have hR : mR M = rm := F.2.2.2.2.2.2.2.2.2.1
  have hml := F.2.2.1
  refine va_mmin F.1 F.2.1 (by rw [hml]; exact hl.1.symm) F.2.2.2.1 (F.2.2.2.2.1 _ hw) (F.2.2.2.2.1 _ q76) (F.2.2.2.2.1 _ q12) (F.2.2.2.2.1 _ q77) (by rw [hR]; exact h1) (by rw [hR]; exact h2) (by rw [hR]; exact hc) (by rw [hR]; exact hs) hdg ?_
  have e : (if nI b < nI a then nI b else nI a) = nI (min a b) := by
    by_cases c : b < a
    · rw [if_pos ((nI_ltI hb ha).mpr c), Nat.min_eq_right (by omega)]
    · rw [if_neg (fun z => c ((nI_ltI hb ha).mp z)), Nat.min_eq_left (by omega)]
  rw [e]
  exact kk H locs ls hP hD hS hl
set_option maxHeartbeats 4000000 in
set_option maxRecDepth 100000 in
theorem met_notAfter (l : Launch) (D : va_G) (dA : ClassId) (a b c d : Nat) (ha : a < 1000) (hb : b < 1000) (hc : c < 1000) (hd : d < 1000) :
    CTI l D dA yX1_notAfter cX1_notAfter 4 .boolean ({ frames := 0, cells := 0, slots := 0, locals := 0 } : Room) [.int (nI a), .int (nI b), .int (nI c), .int (nI d)] [] (S := Unit) (fun (r : Int32) _ => (r = nI 1 ∧ nAft a b c d) ∨ (r = nI 0 ∧ ¬ nAft a b c d)) (fun _ => []) := by
  refine CTI.intro (by decide) (Nat.le_of_ble_eq_true rfl) ?_
  intro M A F
  have F : FX M l D dA A cX1_notAfter 4 RX1 (some .boolean) ({ frames := 0, cells := 0, slots := 0, locals := 0 } : Room) := F
  generalize hQ : QI M D dA A _ _ _ = Q
  show WW M D A 4 Q _ 0 0 0 [(0, .int (nI a)), (1, .int (nI b)), (2, .int (nI c)), (3, .int (nI d))] []
  refine w_iload_n F dX1_notAfter_0 0 rfl ?_
  refine w_iload_n F dX1_notAfter_1 2 rfl ?_
  refine w_icmp_lt F 15 dX1_notAfter_2 (by decide) (by omega) (by omega) (fun c1 => ?_) (fun c1 => ?_)
  · skip
    refine w_iconst F (nI 1) dX1_notAfter_15 (by decide) ?_
    refine w_goto F 20 dX1_notAfter_16 (by decide) ?_
    rw [← hQ]
    exact w_iret F dX1_notAfter_20 rfl () (Or.inl ⟨rfl, by unfold nAft; omega⟩) [] rfl rfl (by decide) (by decide)
  · skip
    refine w_iload_n F dX1_notAfter_5 0 rfl ?_
    refine w_iload_n F dX1_notAfter_6 2 rfl ?_
    refine w_icmp_ne F 19 dX1_notAfter_7 (by decide) (by omega) (by omega) (fun c2 => ?_) (fun c2 => ?_)
    · skip
      refine w_iconst F (nI 0) dX1_notAfter_19 (by decide) ?_
      rw [← hQ]
      exact w_iret F dX1_notAfter_20 rfl () (Or.inr ⟨rfl, by unfold nAft; omega⟩) [] rfl rfl (by decide) (by decide)
    · skip
      refine w_iload_n F dX1_notAfter_10 1 rfl ?_
      refine w_iload_n F dX1_notAfter_11 3 rfl ?_
      refine w_icmp_gt F 19 dX1_notAfter_12 (by decide) (by omega) (by omega) (fun c3 => ?_) (fun c3 => ?_)
      · skip
        refine w_iconst F (nI 0) dX1_notAfter_19 (by decide) ?_
        rw [← hQ]
        exact w_iret F dX1_notAfter_20 rfl () (Or.inr ⟨rfl, by unfold nAft; omega⟩) [] rfl rfl (by decide) (by decide)
      · skip
        refine w_iconst F (nI 1) dX1_notAfter_15 (by decide) ?_
        refine w_goto F 20 dX1_notAfter_16 (by decide) ?_
        rw [← hQ]
        exact w_iret F dX1_notAfter_20 rfl () (Or.inl ⟨rfl, by unfold nAft; omega⟩) [] rfl rfl (by decide) (by decide)
set_option maxHeartbeats 4000000 in
set_option maxRecDepth 100000 in
theorem met_isFirst (l : Launch) (D : va_G) (dA : ClassId) (ha hb : Nat) (s rk : Nat → Nat) (La Lb t j n0 : Nat) (hLa : La < 10000) (hLb : Lb < 10000) (ht : t < 1000) (hj : j < 1000) (hn0 : n0 < 1000) (hs : ∀ i, s i < 1000) (hr : ∀ i, rk i < 1000) (Fp : Prop) (hlo : t < n0 → (t * 3 + 1 < La ∧ t + n0 < Lb) ∧ (nAft (s (t * 3 + 1)) (rk (t + n0)) (s j) (rk (j / 3)) ↔ Fp)) (hhi : n0 ≤ t → ((t - n0) * 3 + 2 + 1 < La ∧ t - n0 + 1 < Lb ∧ j + 1 < La ∧ j / 3 + n0 < Lb) ∧ ((s ((t - n0) * 3 + 2) < s j ∨ (s ((t - n0) * 3 + 2) = s j ∧ nAft (s ((t - n0) * 3 + 2 + 1)) (rk (t - n0 + 1)) (s (j + 1)) (rk (j / 3 + n0)))) ↔ Fp)) (hj1 : j < La) (hj2 : j / 3 < Lb) :
    CTI l D dA yX1_isFirst cX1_isFirst 6 .boolean ({ frames := 1, cells := 0, slots := 0, locals := 23 } : Room) [.ref ha, .ref hb, .int (nI t), .int (nI j), .int (nI n0)] [(ha, ar dA La s), (hb, ar dA Lb rk)] (S := Unit) (fun (r : Int32) _ => (r = nI 1 ∧ Fp) ∨ (r = nI 0 ∧ ¬ Fp)) (fun _ => [(ha, ar dA La s), (hb, ar dA Lb rk)]) := by
  refine CTI.intro (by decide) (Nat.le_of_ble_eq_true rfl) ?_
  intro M A F
  have F : FX M l D dA A cX1_isFirst 6 RX1 (some .boolean) ({ frames := 1, cells := 0, slots := 0, locals := 23 } : Room) := F
  generalize hQ : QI M D dA A _ _ _ = Q
  show WW M D A 6 Q _ 0 0 0 [(0, .ref ha), (1, .ref hb), (2, .int (nI t)), (3, .int (nI j)), (4, .int (nI n0))] []
  refine w_iload_n F dX1_isFirst_0 2 rfl ?_
  refine w_iload F dX1_isFirst_1 4 rfl ?_
  refine w_icmp_ge F 31 dX1_isFirst_3 (by decide) (by omega) (by omega) (fun c1 => ?_) (fun c1 => ?_)
  · skip
    obtain ⟨⟨b1, b2, b3, b4⟩, hiff⟩ := hhi c1
    refine w_iload_n F dX1_isFirst_31 2 rfl ?_
    refine w_iload F dX1_isFirst_32 4 rfl ?_
    refine w_isub F dX1_isFirst_34 (by omega) ?_
    refine w_iconst F (nI 3) dX1_isFirst_35 (by decide) ?_
    refine w_imul F dX1_isFirst_36 ?_
    refine w_iconst F (nI 2) dX1_isFirst_37 (by decide) ?_
    refine w_iadd F dX1_isFirst_38 ?_
    refine w_istore F [(0, .ref ha), (1, .ref hb), (2, .int (nI t)), (3, .int (nI j)), (4, .int (nI n0)), (5, .int (nI (((t - n0) * 3) + 2)))] dX1_isFirst_39 (by decide) rfl rfl ?_
    refine w_aload_n F dX1_isFirst_41 0 rfl ?_
    refine w_iload F dX1_isFirst_42 5 rfl ?_
    refine w_iald F 0 rfl dX1_isFirst_44 (by omega) (by omega) ?_
    refine w_aload_n F dX1_isFirst_45 0 rfl ?_
    refine w_iload_n F dX1_isFirst_46 3 rfl ?_
    refine w_iald F 0 rfl dX1_isFirst_47 (by omega) (by omega) ?_
    refine w_icmp_eq F 67 dX1_isFirst_48 (by decide) (lt31 (hs _)) (lt31 (hs _)) (fun c2 => ?_) (fun c2 => ?_)
    · skip
      refine w_aload_n F dX1_isFirst_67 0 rfl ?_
      refine w_iload F dX1_isFirst_68 5 rfl ?_
      refine w_iconst F (nI 1) dX1_isFirst_70 (by decide) ?_
      refine w_iadd F dX1_isFirst_71 ?_
      refine w_iald F 0 rfl dX1_isFirst_72 (by omega) (by omega) ?_
      refine w_aload_n F dX1_isFirst_73 1 rfl ?_
      refine w_iload_n F dX1_isFirst_74 2 rfl ?_
      refine w_iload F dX1_isFirst_75 4 rfl ?_
      refine w_isub F dX1_isFirst_77 (by omega) ?_
      refine w_iconst F (nI 1) dX1_isFirst_78 (by decide) ?_
      refine w_iadd F dX1_isFirst_79 ?_
      refine w_iald F 1 rfl dX1_isFirst_80 (by omega) (by omega) ?_
      refine w_aload_n F dX1_isFirst_81 0 rfl ?_
      refine w_iload_n F dX1_isFirst_82 3 rfl ?_
      refine w_iconst F (nI 1) dX1_isFirst_83 (by decide) ?_
      refine w_iadd F dX1_isFirst_84 ?_
      refine w_iald F 0 rfl dX1_isFirst_85 (by omega) (by omega) ?_
      refine w_aload_n F dX1_isFirst_86 1 rfl ?_
      refine w_iload_n F dX1_isFirst_87 3 rfl ?_
      refine w_iconst F (nI 3) dX1_isFirst_88 (by decide) ?_
      refine w_idiv F dX1_isFirst_89 (by omega) (by omega) (by omega) ?_
      refine w_iload F dX1_isFirst_90 4 rfl ?_
      refine w_iadd F dX1_isFirst_92 ?_
      refine w_iald F 1 rfl dX1_isFirst_93 (by omega) (by omega) ?_
      refine w_callSI F (wr := [(ha, ar dA La s), (hb, ar dA Lb rk)]) (met_notAfter l D dA (s ((t - n0) * 3 + 2 + 1)) (rk (t - n0 + 1)) (s (j + 1)) (rk (j / 3 + n0)) (hs _) (hr _) (hs _) (hr _)) [] [0, 1] ⟨rfl, by decide, rfl, by decide, by decide⟩ [0, 1] (fun _ => [(ha, ar dA La s), (hb, ar dA Lb rk)]) (fun _ => rfl) (by decide) q114 q115 q10 q116 nam_X1_notAfter (by decide) (by decide) (by decide) (by decide) rfl (Nat.le_of_ble_eq_true rfl) dX1_isFirst_94 (fun r0 u0 hp0 => ?_)
      rw [← hQ]
      rcases hp0 with ⟨rfl, hp⟩ | ⟨rfl, hp⟩
      · exact w_iret F dX1_isFirst_97 rfl () (Or.inl ⟨rfl, hiff.mp (Or.inr ⟨c2, hp⟩)⟩) [0, 1] rfl rfl (by decide) (by decide)
      · exact w_iret F dX1_isFirst_97 rfl () (Or.inr ⟨rfl, fun z => by rcases hiff.mpr z with q | q; exact absurd c2 (Nat.ne_of_lt q); exact hp q.2⟩) [0, 1] rfl rfl (by decide) (by decide)
    · skip
      refine w_aload_n F dX1_isFirst_51 0 rfl ?_
      refine w_iload F dX1_isFirst_52 5 rfl ?_
      refine w_iald F 0 rfl dX1_isFirst_54 (by omega) (by omega) ?_
      refine w_aload_n F dX1_isFirst_55 0 rfl ?_
      refine w_iload_n F dX1_isFirst_56 3 rfl ?_
      refine w_iald F 0 rfl dX1_isFirst_57 (by omega) (by omega) ?_
      refine w_icmp_ge F 65 dX1_isFirst_58 (by decide) (lt31 (hs _)) (lt31 (hs _)) (fun c3 => ?_) (fun c3 => ?_)
      · skip
        refine w_iconst F (nI 0) dX1_isFirst_65 (by decide) ?_
        rw [← hQ]
        exact w_iret F dX1_isFirst_66 rfl () (Or.inr ⟨rfl, fun z => by rcases hiff.mpr z with q | q; omega; exact c2 q.1⟩) [0, 1] rfl rfl (by decide) (by decide)
      · skip
        refine w_iconst F (nI 1) dX1_isFirst_61 (by decide) ?_
        refine w_goto F 66 dX1_isFirst_62 (by decide) ?_
        rw [← hQ]
        exact w_iret F dX1_isFirst_66 rfl () (Or.inl ⟨rfl, hiff.mp (Or.inl c3)⟩) [0, 1] rfl rfl (by decide) (by decide)
  · skip
    obtain ⟨⟨b1, b2⟩, hiff⟩ := hlo c1
    refine w_aload_n F dX1_isFirst_6 0 rfl ?_
    refine w_iload_n F dX1_isFirst_7 2 rfl ?_
    refine w_iconst F (nI 3) dX1_isFirst_8 (by decide) ?_
    refine w_imul F dX1_isFirst_9 ?_
    refine w_iconst F (nI 1) dX1_isFirst_10 (by decide) ?_
    refine w_iadd F dX1_isFirst_11 ?_
    refine w_iald F 0 rfl dX1_isFirst_12 (by omega) (by omega) ?_
    refine w_aload_n F dX1_isFirst_13 1 rfl ?_
    refine w_iload_n F dX1_isFirst_14 2 rfl ?_
    refine w_iload F dX1_isFirst_15 4 rfl ?_
    refine w_iadd F dX1_isFirst_17 ?_
    refine w_iald F 1 rfl dX1_isFirst_18 (by omega) (by omega) ?_
    refine w_aload_n F dX1_isFirst_19 0 rfl ?_
    refine w_iload_n F dX1_isFirst_20 3 rfl ?_
    refine w_iald F 0 rfl dX1_isFirst_21 (by omega) (by omega) ?_
    refine w_aload_n F dX1_isFirst_22 1 rfl ?_
    refine w_iload_n F dX1_isFirst_23 3 rfl ?_
    refine w_iconst F (nI 3) dX1_isFirst_24 (by decide) ?_
    refine w_idiv F dX1_isFirst_25 (by omega) (by omega) (by omega) ?_
    refine w_iald F 1 rfl dX1_isFirst_26 (by omega) (by omega) ?_
    refine w_callSI F (wr := [(ha, ar dA La s), (hb, ar dA Lb rk)]) (met_notAfter l D dA (s (t * 3 + 1)) (rk (t + n0)) (s j) (rk (j / 3)) (hs _) (hr _) (hs _) (hr _)) [] [0, 1] ⟨rfl, by decide, rfl, by decide, by decide⟩ [0, 1] (fun _ => [(ha, ar dA La s), (hb, ar dA Lb rk)]) (fun _ => rfl) (by decide) q114 q115 q10 q116 nam_X1_notAfter (by decide) (by decide) (by decide) (by decide) rfl (Nat.le_of_ble_eq_true rfl) dX1_isFirst_27 (fun r0 u0 hp0 => ?_)
    rw [← hQ]
    rcases hp0 with ⟨rfl, hp⟩ | ⟨rfl, hp⟩
    · exact w_iret F dX1_isFirst_30 rfl () (Or.inl ⟨rfl, hiff.mp hp⟩) [0, 1] rfl rfl (by decide) (by decide)
    · exact w_iret F dX1_isFirst_30 rfl () (Or.inr ⟨rfl, fun z => hp (hiff.mpr z)⟩) [0, 1] rfl rfl (by decide) (by decide)
end
section
def AB (s o : Nat → Nat) (k : Nat) (va vb vc : Int32) : Prop := (k = 0 → va = -1 ∧ vb = -1 ∧ vc = -1) ∧ (0 < k → va = nI (s (o (k - 1))) ∧ vb = nI (s (o (k - 1) + 1)) ∧ vc = nI (s (o (k - 1) + 2)))
theorem nI_m1 {x : Nat} (h : x < 1000) (e : nI x = -1) : False := by
  have h1 := nI_toInt (n := x) (by omega)
  rw [e] at h1
  have h2 : (-1 : Int32).toInt = -1 := by decide
  rw [h2] at h1
  omega
theorem ab_ch {s o : Nat → Nat} {k : Nat} {va vb vc : Int32} (h : AB s o k va vb vc) (hc : ¬ nI (s (o k)) = va ∨ ¬ nI (s (o k + 1)) = vb ∨ ¬ nI (s (o k + 2)) = vc) : nmc s o (k + 1) = nmc s o k + 1 := by
  rw [nmc_s, if_pos]
  rcases Nat.eq_zero_or_pos k with e | e
  · left; exact e
  · right
    obtain ⟨h1, h2, h3⟩ := h.2 e
    rintro ⟨g1, g2, g3⟩
    rcases hc with c | c | c
    · apply c; rw [h1, g1]
    · apply c; rw [h2, g2]
    · apply c; rw [h3, g3]
theorem ab_no {s o : Nat → Nat} {k : Nat} {va vb vc : Int32} (hs : ∀ i, s i < 1000) (h : AB s o k va vb vc) (c1 : nI (s (o k)) = va) (c2 : nI (s (o k + 1)) = vb) (c3 : nI (s (o k + 2)) = vc) : nmc s o (k + 1) = nmc s o k := by
  rw [nmc_s, if_neg]
  · rfl
  · rintro (e | e)
    · exact nI_m1 (hs _) (c1.trans (h.1 e).1)
    · rcases Nat.eq_zero_or_pos k with z | z
      · exact nI_m1 (hs _) (c1.trans (h.1 z).1)
      · obtain ⟨h1, h2, h3⟩ := h.2 z
        rw [h1] at c1
        rw [h2] at c2
        rw [h3] at c3
        exact e ⟨(nI_eq (lt31 (hs _)) (lt31 (hs _))).mp c1, (nI_eq (lt31 (hs _)) (lt31 (hs _))).mp c2, (nI_eq (lt31 (hs _)) (lt31 (hs _))).mp c3⟩
theorem ab_next {s o : Nat → Nat} {k : Nat} {va vb vc : Int32} (c1 : va = nI (s (o k))) (c2 : vb = nI (s (o k + 1))) (c3 : vc = nI (s (o k + 2))) : AB s o (k + 1) va vb vc :=
  ⟨fun z => absurd z (Nat.succ_ne_zero k), fun _ => ⟨c1, c2, c3⟩⟩
def NI (s o : Nat → Nat) (n0 : Nat) (r0 : Nat → Nat) (k : Nat) (rr : Nat → Nat) : Prop := (∀ j, j < k → rr (ix n0 (o j)) = nmc s o (j + 1)) ∧ ∀ x, (∀ j, j < k → x ≠ ix n0 (o j)) → rr x = r0 x
theorem NI_step {s o r0 rr : Nat → Nat} {n0 m k i v : Nat} (hinj : ∀ i j, i < m → j < m → ix n0 (o i) = ix n0 (o j) → i = j) (h : NI s o n0 r0 k rr) (hk : k < m) (hi : i = ix n0 (o k)) (hv : v = nmc s o (k + 1)) : NI s o n0 r0 (k + 1) (upN rr i v) := by
  subst hi
  subst hv
  refine ⟨fun j hj => ?_, fun x hx => ?_⟩
  · by_cases e : j = k
    · rw [e, upN_same]
    · rw [upN_ne (fun z => e (hinj j k (by omega) hk z))]
      exact h.1 j (by omega)
  · rw [upN_ne (hx k (by omega))]
    exact h.2 x (fun j hj => hx j (by omega))
set_option maxHeartbeats 4000000 in
set_option maxRecDepth 100000 in
theorem met_named (l : Launch) (D : va_G) (dA : ClassId) (hs hc h1 h2 h3 : Nat) (s o r0 : Nat → Nat) (L1 L2 L3 n0 n02 : Nat) (hL1 : L1 < 10000) (hL2 : L2 < 10000) (hL3 : L3 < 10000) (hn0 : n0 < 1000) (hn02 : n02 ≤ L3) (hs1 : ∀ i, s i < 1000) (ho : ∀ k, k < n02 → o k + 2 < L1) (hix : ∀ k, k < n02 → ix n0 (o k) < L2) (hinj : ∀ i j, i < n02 → j < n02 → ix n0 (o i) = ix n0 (o j) → i = j) :
    CTI l D dA yX1_named cX1_named 12 .int ({ frames := 0, cells := 0, slots := 0, locals := 0 } : Room) [.ref hs, .ref h1, .ref h2, .ref h3, .int (nI n0), .int (nI n02)] [(hs, .inr (1, [.ref hc])), (h1, ar dA L1 s), (h2, ar dA L2 r0), (h3, ar dA L3 o)] (S := (Nat → Nat)) (fun (r : Int32) (u : Nat → Nat) => r = nI (nmc s o n02) ∧ NI s o n0 r0 n02 u) (fun u => [(hs, .inr (1, [.ref hc])), (h1, ar dA L1 s), (h2, ar dA L2 u), (h3, ar dA L3 o)]) := by
  refine CTI.intro (by decide) (Nat.le_of_ble_eq_true rfl) ?_
  intro M A F
  have F : FX M l D dA A cX1_named 12 RX1 (some .int) ({ frames := 0, cells := 0, slots := 0, locals := 0 } : Room) := F
  generalize hQ : QI M D dA A _ _ _ = Q
  show WW M D A 12 Q _ 0 0 0 [(0, .ref hs), (1, .ref h1), (2, .ref h2), (3, .ref h3), (4, .int (nI n0)), (5, .int (nI n02))] []
  have L1 : ∀ (n k nm : Nat) (va vb vc : Int32) (rr : Nat → Nat), k ≤ n02 → n02 < k + n → nm = nmc s o k → AB s o k va vb vc → NI s o n0 r0 k rr → WW M D A 12 Q [(hs, .inr (1, [.ref hc])), (h1, ar dA L1 s), (h2, ar dA L2 rr), (h3, ar dA L3 o)] 0 0 15 [(0, .ref hs), (1, .ref h1), (2, .ref h2), (3, .ref h3), (4, .int (nI n0)), (5, .int (nI n02)), (6, .int (nI nm)), (7, .int va), (8, .int vb), (9, .int vc), (10, .int (nI k))] [] := by
    intro n
    induction n with
    | zero => intro k nm va vb vc rr hk hn hnm hab hI; exfalso; omega
    | succ n ih =>
      intro k nm va vb vc rr hk hn hnm hab hI
      have hle := nmc_le s o k
      refine w_iload F dX1_named_15 10 rfl ?_
      refine w_iload F dX1_named_17 5 rfl ?_
      refine w_icmp_ge F 116 dX1_named_19 (by decide) (by omega) (by omega) (fun c => ?_) (fun c => ?_)
      · skip
        have e : n02 = k := by omega
        subst e
        refine w_iload F dX1_named_116 6 rfl ?_
        rw [← hQ]
        exact w_iret F dX1_named_118 rfl rr ⟨by rw [hnm], hI⟩ [0, 1, 2, 3] rfl rfl (by decide) (by decide)
      · skip
        have b1 := ho k c
        have b2 := hix k c
        have J84 : ∀ (nm2 : Nat) (va2 vb2 vc2 : Int32), nm2 = nmc s o (k + 1) → AB s o (k + 1) va2 vb2 vc2 → WW M D A 12 Q [(hs, .inr (1, [.ref hc])), (h1, ar dA L1 s), (h2, ar dA L2 rr), (h3, ar dA L3 o)] 0 0 84 [(0, .ref hs), (1, .ref h1), (2, .ref h2), (3, .ref h3), (4, .int (nI n0)), (5, .int (nI n02)), (6, .int (nI nm2)), (7, .int va2), (8, .int vb2), (9, .int vc2), (10, .int (nI k)), (11, .int (nI (o k)))] [] := by
          intro nm2 va2 vb2 vc2 hnm2 hab2
          refine w_aload_n F dX1_named_84 2 rfl ?_
          refine w_iload F dX1_named_85 11 rfl ?_
          refine w_iconst F (nI 3) dX1_named_87 (by decide) ?_
          refine w_irem F dX1_named_88 (by omega) (by omega) (by omega) ?_
          refine w_iconst F (nI 1) dX1_named_89 (by decide) ?_
          refine w_icmp_ne F 100 dX1_named_90 (by decide) (by omega) (by omega) (fun c2 => ?_) (fun c2 => ?_)
          · skip
            have e2 := ix_2 (n0 := n0) c2
            rw [e2] at b2
            refine w_iload F dX1_named_100 11 rfl ?_
            refine w_iconst F (nI 3) dX1_named_102 (by decide) ?_
            refine w_idiv F dX1_named_103 (by omega) (by omega) (by omega) ?_
            refine w_iload F dX1_named_104 4 rfl ?_
            refine w_iadd F dX1_named_106 ?_
            refine w_iload F dX1_named_107 6 rfl ?_
            refine w_iast F 2 ([(hs, .inr (1, [.ref hc])), (h1, ar dA L1 s), (h2, ar dA L2 (upN rr (((o k) / 3) + n0) nm2)), (h3, ar dA L3 o)]) rfl dX1_named_109 (by omega) (by omega) rfl ?_
            refine w_iinc F (v := (nI (k + 1))) [(0, .ref hs), (1, .ref h1), (2, .ref h2), (3, .ref h3), (4, .int (nI n0)), (5, .int (nI n02)), (6, .int (nI nm2)), (7, .int va2), (8, .int vb2), (9, .int vc2), (10, .int (nI (k + 1))), (11, .int (nI (o k)))] dX1_named_110 10 rfl (nI_add k 1) (by decide) rfl rfl ?_
            refine w_goto F 15 dX1_named_113 (by decide) ?_
            refine w_lsub [0, 1, 2, 3, 4, 5, 6, 7, 8, 9, 10] rfl ?_
            exact ih (k + 1) _ _ _ _ _ (by omega) (by omega) hnm2 hab2 (NI_step hinj hI c e2.symm hnm2)
          · skip
            have e2 := ix_1 (n0 := n0) c2
            rw [e2] at b2
            refine w_iload F dX1_named_93 11 rfl ?_
            refine w_iconst F (nI 3) dX1_named_95 (by decide) ?_
            refine w_idiv F dX1_named_96 (by omega) (by omega) (by omega) ?_
            refine w_goto F 107 dX1_named_97 (by decide) ?_
            refine w_iload F dX1_named_107 6 rfl ?_
            refine w_iast F 2 ([(hs, .inr (1, [.ref hc])), (h1, ar dA L1 s), (h2, ar dA L2 (upN rr ((o k) / 3) nm2)), (h3, ar dA L3 o)]) rfl dX1_named_109 (by omega) (by omega) rfl ?_
            refine w_iinc F (v := (nI (k + 1))) [(0, .ref hs), (1, .ref h1), (2, .ref h2), (3, .ref h3), (4, .int (nI n0)), (5, .int (nI n02)), (6, .int (nI nm2)), (7, .int va2), (8, .int vb2), (9, .int vc2), (10, .int (nI (k + 1))), (11, .int (nI (o k)))] dX1_named_110 10 rfl (nI_add k 1) (by decide) rfl rfl ?_
            refine w_goto F 15 dX1_named_113 (by decide) ?_
            refine w_lsub [0, 1, 2, 3, 4, 5, 6, 7, 8, 9, 10] rfl ?_
            exact ih (k + 1) _ _ _ _ _ (by omega) (by omega) hnm2 hab2 (NI_step hinj hI c e2.symm hnm2)
        have J59 : nmc s o (k + 1) = nmc s o k + 1 → WW M D A 12 Q [(hs, .inr (1, [.ref hc])), (h1, ar dA L1 s), (h2, ar dA L2 rr), (h3, ar dA L3 o)] 0 0 59 [(0, .ref hs), (1, .ref h1), (2, .ref h2), (3, .ref h3), (4, .int (nI n0)), (5, .int (nI n02)), (6, .int (nI nm)), (7, .int va), (8, .int vb), (9, .int vc), (10, .int (nI k)), (11, .int (nI (o k)))] [] := by
          intro hch
          refine w_iinc F (v := (nI (nm + 1))) [(0, .ref hs), (1, .ref h1), (2, .ref h2), (3, .ref h3), (4, .int (nI n0)), (5, .int (nI n02)), (6, .int (nI (nm + 1))), (7, .int va), (8, .int vb), (9, .int vc), (10, .int (nI k)), (11, .int (nI (o k)))] dX1_named_59 6 rfl (nI_add nm 1) (by decide) rfl rfl ?_
          refine w_aload_n F dX1_named_62 1 rfl ?_
          refine w_iload F dX1_named_63 11 rfl ?_
          refine w_iald F 1 rfl dX1_named_65 (by omega) (by omega) ?_
          refine w_istore F [(0, .ref hs), (1, .ref h1), (2, .ref h2), (3, .ref h3), (4, .int (nI n0)), (5, .int (nI n02)), (6, .int (nI (nm + 1))), (7, .int (nI (s (o k)))), (8, .int vb), (9, .int vc), (10, .int (nI k)), (11, .int (nI (o k)))] dX1_named_66 (by decide) rfl rfl ?_
          refine w_aload_n F dX1_named_68 1 rfl ?_
          refine w_iload F dX1_named_69 11 rfl ?_
          refine w_iconst F (nI 1) dX1_named_71 (by decide) ?_
          refine w_iadd F dX1_named_72 ?_
          refine w_iald F 1 rfl dX1_named_73 (by omega) (by omega) ?_
          refine w_istore F [(0, .ref hs), (1, .ref h1), (2, .ref h2), (3, .ref h3), (4, .int (nI n0)), (5, .int (nI n02)), (6, .int (nI (nm + 1))), (7, .int (nI (s (o k)))), (8, .int (nI (s ((o k) + 1)))), (9, .int vc), (10, .int (nI k)), (11, .int (nI (o k)))] dX1_named_74 (by decide) rfl rfl ?_
          refine w_aload_n F dX1_named_76 1 rfl ?_
          refine w_iload F dX1_named_77 11 rfl ?_
          refine w_iconst F (nI 2) dX1_named_79 (by decide) ?_
          refine w_iadd F dX1_named_80 ?_
          refine w_iald F 1 rfl dX1_named_81 (by omega) (by omega) ?_
          refine w_istore F [(0, .ref hs), (1, .ref h1), (2, .ref h2), (3, .ref h3), (4, .int (nI n0)), (5, .int (nI n02)), (6, .int (nI (nm + 1))), (7, .int (nI (s (o k)))), (8, .int (nI (s ((o k) + 1)))), (9, .int (nI (s ((o k) + 2)))), (10, .int (nI k)), (11, .int (nI (o k)))] dX1_named_82 (by decide) rfl rfl ?_
          exact J84 _ _ _ _ (by omega) (ab_next rfl rfl rfl)
        refine w_aload_n F dX1_named_22 3 rfl ?_
        refine w_iload F dX1_named_23 10 rfl ?_
        refine w_iald F 3 rfl dX1_named_25 (by omega) (by omega) ?_
        refine w_istore F [(0, .ref hs), (1, .ref h1), (2, .ref h2), (3, .ref h3), (4, .int (nI n0)), (5, .int (nI n02)), (6, .int (nI nm)), (7, .int va), (8, .int vb), (9, .int vc), (10, .int (nI k)), (11, .int (nI (o k)))] dX1_named_26 (by decide) rfl rfl ?_
        refine w_aload_n F dX1_named_28 1 rfl ?_
        refine w_iload F dX1_named_29 11 rfl ?_
        refine w_iald F 1 rfl dX1_named_31 (by omega) (by omega) ?_
        refine w_iload F dX1_named_32 7 rfl ?_
        refine w_icmp_neX F 59 dX1_named_34 (by decide) (fun d1 => ?_) (fun d1 => ?_)
        · skip
          exact J59 (ab_ch hab (Or.inl d1))
        · skip
          refine w_aload_n F dX1_named_37 1 rfl ?_
          refine w_iload F dX1_named_38 11 rfl ?_
          refine w_iconst F (nI 1) dX1_named_40 (by decide) ?_
          refine w_iadd F dX1_named_41 ?_
          refine w_iald F 1 rfl dX1_named_42 (by omega) (by omega) ?_
          refine w_iload F dX1_named_43 8 rfl ?_
          refine w_icmp_neX F 59 dX1_named_45 (by decide) (fun d2 => ?_) (fun d2 => ?_)
          · skip
            exact J59 (ab_ch hab (Or.inr (Or.inl d2)))
          · skip
            refine w_aload_n F dX1_named_48 1 rfl ?_
            refine w_iload F dX1_named_49 11 rfl ?_
            refine w_iconst F (nI 2) dX1_named_51 (by decide) ?_
            refine w_iadd F dX1_named_52 ?_
            refine w_iald F 1 rfl dX1_named_53 (by omega) (by omega) ?_
            refine w_iload F dX1_named_54 9 rfl ?_
            refine w_icmp_eqX F 84 dX1_named_56 (by decide) (fun d3 => ?_) (fun d3 => ?_)
            · skip
              exact J84 _ _ _ _ (by rw [ab_no hs1 hab d1 d2 d3]; exact hnm) (ab_next d1.symm d2.symm d3.symm)
            · skip
              exact J59 (ab_ch hab (Or.inr (Or.inr d3)))
  refine w_iconst F (nI 0) dX1_named_0 (by decide) ?_
  refine w_istore F [(0, .ref hs), (1, .ref h1), (2, .ref h2), (3, .ref h3), (4, .int (nI n0)), (5, .int (nI n02)), (6, .int (nI 0))] dX1_named_1 (by decide) rfl rfl ?_
  refine w_iconst F (-1) dX1_named_3 (by decide) ?_
  refine w_istore F [(0, .ref hs), (1, .ref h1), (2, .ref h2), (3, .ref h3), (4, .int (nI n0)), (5, .int (nI n02)), (6, .int (nI 0)), (7, .int (-1))] dX1_named_4 (by decide) rfl rfl ?_
  refine w_iconst F (-1) dX1_named_6 (by decide) ?_
  refine w_istore F [(0, .ref hs), (1, .ref h1), (2, .ref h2), (3, .ref h3), (4, .int (nI n0)), (5, .int (nI n02)), (6, .int (nI 0)), (7, .int (-1)), (8, .int (-1))] dX1_named_7 (by decide) rfl rfl ?_
  refine w_iconst F (-1) dX1_named_9 (by decide) ?_
  refine w_istore F [(0, .ref hs), (1, .ref h1), (2, .ref h2), (3, .ref h3), (4, .int (nI n0)), (5, .int (nI n02)), (6, .int (nI 0)), (7, .int (-1)), (8, .int (-1)), (9, .int (-1))] dX1_named_10 (by decide) rfl rfl ?_
  refine w_iconst F (nI 0) dX1_named_12 (by decide) ?_
  refine w_istore F [(0, .ref hs), (1, .ref h1), (2, .ref h2), (3, .ref h3), (4, .int (nI n0)), (5, .int (nI n02)), (6, .int (nI 0)), (7, .int (-1)), (8, .int (-1)), (9, .int (-1)), (10, .int (nI 0))] dX1_named_13 (by decide) rfl rfl ?_
  exact L1 (n02 + 1) 0 0 _ _ _ _ (by omega) (by omega) rfl ⟨fun _ => ⟨rfl, rfl, rfl⟩, fun z => absurd z (Nat.lt_irrefl 0)⟩ ⟨fun j hj => absurd hj (Nat.not_lt_zero j), fun _ _ => rfl⟩
end
section
/-- what merge takes: the ranks of the two thirds, their order, the order of the other third -/
def MP (n : Nat) (s rk o12 o0 : Nat → Nat) : Prop := (∀ i, i < n → 1 ≤ s i) ∧ (∀ i, n ≤ i → s i = 0) ∧ (∀ x y, x < (n + 2) / 3 + n / 3 → y < (n + 2) / 3 + n / 3 → (rk x < rk y ↔ lexLt s (px ((n + 2) / 3) x) (px ((n + 2) / 3) y))) ∧ (∀ x, x < (n + 2) / 3 + n / 3 → 1 ≤ rk x) ∧ (∀ x, (n + 2) / 3 + n / 3 ≤ x → rk x = 0) ∧ (∀ x y, x < (n + 2) / 3 + n / 3 → y < (n + 2) / 3 + n / 3 → rk x = rk y → x = y) ∧ (∀ t, t < (n + 2) / 3 + n / 3 → o12 t < (n + 2) / 3 + n / 3) ∧ (∀ a b, a < b → b < (n + 2) / 3 + n / 3 → lexLt s (px ((n + 2) / 3) (o12 a)) (px ((n + 2) / 3) (o12 b))) ∧ (∀ t, (n + 2) / 3 - (n + 1) / 3 ≤ t → t < (n + 2) / 3 + n / 3 → px ((n + 2) / 3) (o12 t) < n) ∧ (∀ p, p < (n + 2) / 3 → o0 p < n ∧ o0 p % 3 = 0) ∧ (∀ a b, a < b → b < (n + 2) / 3 → lexLt s (o0 a) (o0 b))
/-- the suffixes in order -/
def SA (n : Nat) (s o : Nat → Nat) : Prop := (∀ a, a < n → o a < n) ∧ ∀ a b, a < b → b < n → lexLt s (o a) (o b)
set_option maxHeartbeats 4000000 in
set_option maxRecDepth 100000 in
theorem met_merge (l : Launch) (D : va_G) (dA : ClassId) (hs hc h1 h2 h4 h5 h6 : Nat) (s S rk o12 o0 ord0 : Nat → Nat) (L1 L2 L4 L5 L6 n : Nat) (hL1 : L1 < 10000) (hL2 : L2 < 10000) (hL4 : L4 < 10000) (hL5 : L5 < 10000) (hL6 : L6 < 10000) (hn : n ≤ 300) (g1 : n + 2 < L1) (g2 : n ≤ L2) (g4 : (n + 2) / 3 + n / 3 < L4) (g5 : (n + 2) / 3 + n / 3 ≤ L5) (g6 : (n + 2) / 3 ≤ L6) (hsb : ∀ i, s i < 1000) (hrb : ∀ i, rk i < 1000) (hE : ∀ i, i ≤ n + 2 → s i = S i) (hMP : MP n S rk o12 o0) :
    CTV l D dA yX1_merge cX1_merge 14 ({ frames := 2, cells := 0, slots := 0, locals := 48 } : Room) [.ref hs, .ref h1, .ref h2, .int (nI n), .ref h4, .ref h5, .ref h6] [(hs, .inr (1, [.ref hc])), (h1, ar dA L1 s), (h2, ar dA L2 ord0), (h4, ar dA L4 rk), (h5, ar dA L5 o12), (h6, ar dA L6 o0)] (S := (Nat → Nat)) (fun (u : Nat → Nat) => SA n S u) (fun u => [(hs, .inr (1, [.ref hc])), (h1, ar dA L1 s), (h2, ar dA L2 u), (h4, ar dA L4 rk), (h5, ar dA L5 o12), (h6, ar dA L6 o0)]) := by
  refine CTV.intro (by decide) (Nat.le_of_ble_eq_true rfl) ?_
  intro M A F hin
  have F : FX M l D dA A cX1_merge 14 RX1 none ({ frames := 2, cells := 0, slots := 0, locals := 48 } : Room) := F
  generalize hQ : QV M D dA A _ _ _ = Q
  show WW M D A 14 Q _ 0 0 0 [(0, .ref hs), (1, .ref h1), (2, .ref h2), (3, .int (nI n)), (4, .ref h4), (5, .ref h5), (6, .ref h6)] []
  obtain ⟨hp, hz, hrk, hr1, hr0, hri, ho12, hU, hUn, ho0, hV⟩ := hMP
  have L1 : ∀ (n_ k p t : Nat) (o : Nat → Nat), k ≤ n → n < k + n_ → p ≤ (n + 2) / 3 → (n + 2) / 3 - (n + 1) / 3 ≤ t → t ≤ (n + 2) / 3 + n / 3 → p + t = k + ((n + 2) / 3 - (n + 1) / 3) → MI S (fun t => px ((n + 2) / 3) (o12 t)) o0 n ((n + 2) / 3) ((n + 2) / 3 + n / 3) k p t o → WW M D A 14 Q [(hs, .inr (1, [.ref hc])), (h1, ar dA L1 s), (h2, ar dA L2 o), (h4, ar dA L4 rk), (h5, ar dA L5 o12), (h6, ar dA L6 o0)] 0 0 35 [(0, .ref hs), (1, .ref h1), (2, .ref h2), (3, .int (nI n)), (4, .ref h4), (5, .ref h5), (6, .ref h6), (7, .int (nI ((n + 2) / 3))), (8, .int (nI ((n + 1) / 3))), (9, .int (nI ((n + 2) / 3 + n / 3))), (10, .int (nI p)), (11, .int (nI t)), (12, .int (nI k))] [] := by
    intro n_
    induction n_ with
    | zero => intro k p t o hk hf hp0 ht0 ht1 hpt hI; exfalso; omega
    | succ n_ ih =>
      intro k p t o hk hf hp0 ht0 ht1 hpt hI
      refine w_iload F dX1_merge_35 12 rfl ?_
      refine w_iload_n F dX1_merge_37 3 rfl ?_
      refine w_icmp_ge F 154 dX1_merge_38 (by decide) (by omega) (by omega) (fun c => ?_) (fun c => ?_)
      · skip
        have e : n = k := by omega
        subst e
        rw [← hQ]
        exact w_vret F dX1_merge_154 o ⟨hI.2.1, hI.1⟩ [0, 1, 2, 3, 4, 5] rfl rfl (by decide) (by decide)
      · skip
        have J92 : t < (n + 2) / 3 + n / 3 → (p < (n + 2) / 3 → lexLt S (px ((n + 2) / 3) (o12 t)) (o0 p)) → WW M D A 14 Q [(hs, .inr (1, [.ref hc])), (h1, ar dA L1 s), (h2, ar dA L2 o), (h4, ar dA L4 rk), (h5, ar dA L5 o12), (h6, ar dA L6 o0)] 0 0 92 [(0, .ref hs), (1, .ref h1), (2, .ref h2), (3, .int (nI n)), (4, .ref h4), (5, .ref h5), (6, .ref h6), (7, .int (nI ((n + 2) / 3))), (8, .int (nI ((n + 1) / 3))), (9, .int (nI ((n + 2) / 3 + n / 3))), (10, .int (nI p)), (11, .int (nI t)), (12, .int (nI k))] [] := by
          intro hlt hfst
          have q1 := ho12 t hlt
          have q2 := hUn t ht0 hlt
          have hM := MI_U hI hlt (fun a b _ h1 h2 => hU a b h1 h2) hV q2 hfst
          refine w_aload_n F dX1_merge_92 2 rfl ?_
          refine w_iload F dX1_merge_93 12 rfl ?_
          refine w_aload F dX1_merge_95 5 rfl ?_
          refine w_iload F dX1_merge_97 11 rfl ?_
          refine w_iald F 4 rfl dX1_merge_99 (by omega) (by omega) ?_
          refine w_iload F dX1_merge_100 7 rfl ?_
          refine w_icmp_ge F 117 dX1_merge_102 (by decide) (by omega) (by omega) (fun c2 => ?_) (fun c2 => ?_)
          · skip
            have e := px_hi c2
            rw [e] at q2
            have e2 : px ((n + 2) / 3) (o12 t) = (o12 t - ((n + 2) / 3)) * 3 + 2 := by rw [e]; omega
            refine w_aload F dX1_merge_117 5 rfl ?_
            refine w_iload F dX1_merge_119 11 rfl ?_
            refine w_iald F 4 rfl dX1_merge_121 (by omega) (by omega) ?_
            refine w_iload F dX1_merge_122 7 rfl ?_
            refine w_isub F dX1_merge_124 (by omega) ?_
            refine w_iconst F (nI 3) dX1_merge_125 (by decide) ?_
            refine w_imul F dX1_merge_126 ?_
            refine w_iconst F (nI 2) dX1_merge_127 (by decide) ?_
            refine w_iadd F dX1_merge_128 ?_
            refine w_iast F 2 ([(hs, .inr (1, [.ref hc])), (h1, ar dA L1 s), (h2, ar dA L2 (upN o k ((((o12 t) - ((n + 2) / 3)) * 3) + 2))), (h4, ar dA L4 rk), (h5, ar dA L5 o12), (h6, ar dA L6 o0)]) rfl dX1_merge_129 (by omega) (by omega) rfl ?_
            refine w_iinc F (v := (nI (t + 1))) [(0, .ref hs), (1, .ref h1), (2, .ref h2), (3, .int (nI n)), (4, .ref h4), (5, .ref h5), (6, .ref h6), (7, .int (nI ((n + 2) / 3))), (8, .int (nI ((n + 1) / 3))), (9, .int (nI ((n + 2) / 3 + n / 3))), (10, .int (nI p)), (11, .int (nI (t + 1))), (12, .int (nI k))] dX1_merge_130 11 rfl (nI_add t 1) (by decide) rfl rfl ?_
            refine w_goto F 148 dX1_merge_133 (by decide) ?_
            refine w_iinc F (v := (nI (k + 1))) [(0, .ref hs), (1, .ref h1), (2, .ref h2), (3, .int (nI n)), (4, .ref h4), (5, .ref h5), (6, .ref h6), (7, .int (nI ((n + 2) / 3))), (8, .int (nI ((n + 1) / 3))), (9, .int (nI ((n + 2) / 3 + n / 3))), (10, .int (nI p)), (11, .int (nI (t + 1))), (12, .int (nI (k + 1)))] dX1_merge_148 12 rfl (nI_add k 1) (by decide) rfl rfl ?_
            refine w_goto F 35 dX1_merge_151 (by decide) ?_
            exact ih (k + 1) p (t + 1) _ (by omega) (by omega) hp0 (by omega) (by omega) (by omega) (by rw [← e2]; exact hM)
          · skip
            have e := px_lo c2
            rw [e] at q2
            have e2 : px ((n + 2) / 3) (o12 t) = o12 t * 3 + 1 := by rw [e]; omega
            refine w_aload F dX1_merge_105 5 rfl ?_
            refine w_iload F dX1_merge_107 11 rfl ?_
            refine w_iald F 4 rfl dX1_merge_109 (by omega) (by omega) ?_
            refine w_iconst F (nI 3) dX1_merge_110 (by decide) ?_
            refine w_imul F dX1_merge_111 ?_
            refine w_iconst F (nI 1) dX1_merge_112 (by decide) ?_
            refine w_iadd F dX1_merge_113 ?_
            refine w_goto F 129 dX1_merge_114 (by decide) ?_
            refine w_iast F 2 ([(hs, .inr (1, [.ref hc])), (h1, ar dA L1 s), (h2, ar dA L2 (upN o k (((o12 t) * 3) + 1))), (h4, ar dA L4 rk), (h5, ar dA L5 o12), (h6, ar dA L6 o0)]) rfl dX1_merge_129 (by omega) (by omega) rfl ?_
            refine w_iinc F (v := (nI (t + 1))) [(0, .ref hs), (1, .ref h1), (2, .ref h2), (3, .int (nI n)), (4, .ref h4), (5, .ref h5), (6, .ref h6), (7, .int (nI ((n + 2) / 3))), (8, .int (nI ((n + 1) / 3))), (9, .int (nI ((n + 2) / 3 + n / 3))), (10, .int (nI p)), (11, .int (nI (t + 1))), (12, .int (nI k))] dX1_merge_130 11 rfl (nI_add t 1) (by decide) rfl rfl ?_
            refine w_goto F 148 dX1_merge_133 (by decide) ?_
            refine w_iinc F (v := (nI (k + 1))) [(0, .ref hs), (1, .ref h1), (2, .ref h2), (3, .int (nI n)), (4, .ref h4), (5, .ref h5), (6, .ref h6), (7, .int (nI ((n + 2) / 3))), (8, .int (nI ((n + 1) / 3))), (9, .int (nI ((n + 2) / 3 + n / 3))), (10, .int (nI p)), (11, .int (nI (t + 1))), (12, .int (nI (k + 1)))] dX1_merge_148 12 rfl (nI_add k 1) (by decide) rfl rfl ?_
            refine w_goto F 35 dX1_merge_151 (by decide) ?_
            exact ih (k + 1) p (t + 1) _ (by omega) (by omega) hp0 (by omega) (by omega) (by omega) (by rw [← e2]; exact hM)
        have J136 : p < (n + 2) / 3 → (t < (n + 2) / 3 + n / 3 → lexLt S (o0 p) (px ((n + 2) / 3) (o12 t))) → WW M D A 14 Q [(hs, .inr (1, [.ref hc])), (h1, ar dA L1 s), (h2, ar dA L2 o), (h4, ar dA L4 rk), (h5, ar dA L5 o12), (h6, ar dA L6 o0)] 0 0 136 [(0, .ref hs), (1, .ref h1), (2, .ref h2), (3, .int (nI n)), (4, .ref h4), (5, .ref h5), (6, .ref h6), (7, .int (nI ((n + 2) / 3))), (8, .int (nI ((n + 1) / 3))), (9, .int (nI ((n + 2) / 3 + n / 3))), (10, .int (nI p)), (11, .int (nI t)), (12, .int (nI k))] [] := by
          intro hlt hfst
          have q1 := ho0 p hlt
          have hM := MI_V hI hlt (fun a b _ h1 h2 => hU a b h1 h2) hV q1.1 hfst
          refine w_aload_n F dX1_merge_136 2 rfl ?_
          refine w_iload F dX1_merge_137 12 rfl ?_
          refine w_aload F dX1_merge_139 6 rfl ?_
          refine w_iload F dX1_merge_141 10 rfl ?_
          refine w_iald F 5 rfl dX1_merge_143 (by omega) (by omega) ?_
          refine w_iast F 2 ([(hs, .inr (1, [.ref hc])), (h1, ar dA L1 s), (h2, ar dA L2 (upN o k (o0 p))), (h4, ar dA L4 rk), (h5, ar dA L5 o12), (h6, ar dA L6 o0)]) rfl dX1_merge_144 (by omega) (by omega) rfl ?_
          refine w_iinc F (v := (nI (p + 1))) [(0, .ref hs), (1, .ref h1), (2, .ref h2), (3, .int (nI n)), (4, .ref h4), (5, .ref h5), (6, .ref h6), (7, .int (nI ((n + 2) / 3))), (8, .int (nI ((n + 1) / 3))), (9, .int (nI ((n + 2) / 3 + n / 3))), (10, .int (nI (p + 1))), (11, .int (nI t)), (12, .int (nI k))] dX1_merge_145 10 rfl (nI_add p 1) (by decide) rfl rfl ?_
          refine w_iinc F (v := (nI (k + 1))) [(0, .ref hs), (1, .ref h1), (2, .ref h2), (3, .int (nI n)), (4, .ref h4), (5, .ref h5), (6, .ref h6), (7, .int (nI ((n + 2) / 3))), (8, .int (nI ((n + 1) / 3))), (9, .int (nI ((n + 2) / 3 + n / 3))), (10, .int (nI (p + 1))), (11, .int (nI t)), (12, .int (nI (k + 1)))] dX1_merge_148 12 rfl (nI_add k 1) (by decide) rfl rfl ?_
          refine w_goto F 35 dX1_merge_151 (by decide) ?_
          exact ih (k + 1) (p + 1) t _ (by omega) (by omega) (by omega) ht0 ht1 (by omega) hM
        refine w_iload F dX1_merge_41 11 rfl ?_
        refine w_iload F dX1_merge_43 9 rfl ?_
        refine w_icmp_ne F 54 dX1_merge_45 (by decide) (by omega) (by omega) (fun c2 => ?_) (fun c2 => ?_)
        · skip
          refine w_iload F dX1_merge_54 10 rfl ?_
          refine w_iload F dX1_merge_56 7 rfl ?_
          refine w_icmp_ne F 67 dX1_merge_58 (by decide) (by omega) (by omega) (fun c3 => ?_) (fun c3 => ?_)
          · skip
            have i1 : t < (n + 2) / 3 + n / 3 := by omega
            have i2 : p < (n + 2) / 3 := by omega
            have q1 := ho12 t i1
            have q2 := ho0 p i2
            have q3 := hUn t ht0 i1
            refine w_aload_n F dX1_merge_67 1 rfl ?_
            refine w_aload F dX1_merge_68 4 rfl ?_
            refine w_aload F dX1_merge_70 5 rfl ?_
            refine w_iload F dX1_merge_72 11 rfl ?_
            refine w_iald F 4 rfl dX1_merge_74 (by omega) (by omega) ?_
            refine w_aload F dX1_merge_75 6 rfl ?_
            refine w_iload F dX1_merge_77 10 rfl ?_
            refine w_iald F 5 rfl dX1_merge_79 (by omega) (by omega) ?_
            refine w_iload F dX1_merge_80 7 rfl ?_
            have q4 : o12 t < (n + 2) / 3 → 3 * o12 t + 1 < n := fun c => by rw [px_lo c] at q3; exact q3
            have q5 : (n + 2) / 3 ≤ o12 t → 3 * (o12 t - ((n + 2) / 3)) + 2 < n := fun c => by rw [px_hi c] at q3; exact q3
            refine w_callSI F (wr := [(hs, .inr (1, [.ref hc])), (h2, ar dA L2 o), (h5, ar dA L5 o12), (h6, ar dA L6 o0)]) (met_isFirst l D dA h1 h4 s rk L1 L4 (o12 t) (o0 p) ((n + 2) / 3) hL1 hL4 (by omega) (by omega) (by omega) hsb hrb (lexLt S (px ((n + 2) / 3) (o12 t)) (o0 p)) (fun c4 => ⟨by have := q4 c4; omega, by have := q4 c4; rw [px_lo c4, Nat.mul_comm (o12 t) 3, hE (3 * o12 t + 1) (by omega), hE (o0 p) (by omega)]; exact first_lo hp hz hrk hr1 hr0 hri c4 (q4 c4) q2.1 q2.2⟩) (fun c4 => ⟨by have := q5 c4; omega, by have := q5 c4; rw [px_hi c4, Nat.mul_comm (o12 t - ((n + 2) / 3)) 3, hE (3 * (o12 t - ((n + 2) / 3)) + 2) (by omega), hE (3 * (o12 t - ((n + 2) / 3)) + 2 + 1) (by omega), hE (o0 p) (by omega), hE (o0 p + 1) (by omega)]; exact first_hi hp hz hrk hr1 hr0 hri c4 q1 q2.1 q2.2⟩) (by omega) (by omega)) [1, 3] [0, 2, 4, 5] ⟨rfl, by decide, rfl, by decide, by decide⟩ [0, 4, 1, 5, 2, 3] (fun _ => [(hs, .inr (1, [.ref hc])), (h1, ar dA L1 s), (h2, ar dA L2 o), (h4, ar dA L4 rk), (h5, ar dA L5 o12), (h6, ar dA L6 o0)]) (fun _ => rfl) (by decide) q111 q112 q10 q113 nam_X1_isFirst (by decide) (by decide) (by decide) (by decide) rfl (Nat.le_of_ble_eq_true rfl) dX1_merge_82 (fun r0 u0 hp0 => ?_)
            rcases hp0 with ⟨rfl, hp0⟩ | ⟨rfl, hp0⟩
            · skip
              refine w_istore F [(0, .ref hs), (1, .ref h1), (2, .ref h2), (3, .int (nI n)), (4, .ref h4), (5, .ref h5), (6, .ref h6), (7, .int (nI ((n + 2) / 3))), (8, .int (nI ((n + 1) / 3))), (9, .int (nI ((n + 2) / 3 + n / 3))), (10, .int (nI p)), (11, .int (nI t)), (12, .int (nI k)), (13, .int (nI 1))] dX1_merge_85 (by decide) rfl rfl ?_
              refine w_iload F dX1_merge_87 13 rfl ?_
              refine w_if_eq F 136 dX1_merge_89 (by decide) (by omega) (fun z => ?_) (fun z => ?_)
              · skip
                exact absurd z (by decide)
              · skip
                refine w_lsub [0, 1, 2, 3, 4, 5, 6, 7, 8, 9, 10, 11, 12] rfl ?_
                exact J92 i1 (fun _ => hp0)
            · skip
              have hq : lexLt S (o0 p) (px ((n + 2) / 3) (o12 t)) := by
                rcases lex_tri S (o0 p) (px ((n + 2) / 3) (o12 t)) with q | q | q
                · exact q
                · exact absurd q hp0
                · exfalso
                  have e0 := (px_ok q1).1
                  rcases Nat.lt_trichotomy (o0 p) (px ((n + 2) / 3) (o12 t)) with g | g | g
                  · have := q (n - px ((n + 2) / 3) (o12 t))
                    rw [hz (px ((n + 2) / 3) (o12 t) + (n - px ((n + 2) / 3) (o12 t))) (by omega)] at this
                    have := hp (o0 p + (n - px ((n + 2) / 3) (o12 t))) (by omega)
                    omega
                  · omega
                  · have := q (n - o0 p)
                    rw [hz (o0 p + (n - o0 p)) (by omega)] at this
                    have := hp (px ((n + 2) / 3) (o12 t) + (n - o0 p)) (by omega)
                    omega
              refine w_istore F [(0, .ref hs), (1, .ref h1), (2, .ref h2), (3, .int (nI n)), (4, .ref h4), (5, .ref h5), (6, .ref h6), (7, .int (nI ((n + 2) / 3))), (8, .int (nI ((n + 1) / 3))), (9, .int (nI ((n + 2) / 3 + n / 3))), (10, .int (nI p)), (11, .int (nI t)), (12, .int (nI k)), (13, .int (nI 0))] dX1_merge_85 (by decide) rfl rfl ?_
              refine w_iload F dX1_merge_87 13 rfl ?_
              refine w_if_eq F 136 dX1_merge_89 (by decide) (by omega) (fun z => ?_) (fun z => ?_)
              · skip
                refine w_lsub [0, 1, 2, 3, 4, 5, 6, 7, 8, 9, 10, 11, 12] rfl ?_
                exact J136 i2 (fun _ => hq)
              · skip
                exact absurd rfl z
          · skip
            refine w_iconst F (nI 1) dX1_merge_61 (by decide) ?_
            refine w_istore F [(0, .ref hs), (1, .ref h1), (2, .ref h2), (3, .int (nI n)), (4, .ref h4), (5, .ref h5), (6, .ref h6), (7, .int (nI ((n + 2) / 3))), (8, .int (nI ((n + 1) / 3))), (9, .int (nI ((n + 2) / 3 + n / 3))), (10, .int (nI p)), (11, .int (nI t)), (12, .int (nI k)), (13, .int (nI 1))] dX1_merge_62 (by decide) rfl rfl ?_
            refine w_goto F 87 dX1_merge_64 (by decide) ?_
            refine w_iload F dX1_merge_87 13 rfl ?_
            refine w_if_eq F 136 dX1_merge_89 (by decide) (by omega) (fun z => ?_) (fun z => ?_)
            · skip
              exact absurd z (by decide)
            · skip
              refine w_lsub [0, 1, 2, 3, 4, 5, 6, 7, 8, 9, 10, 11, 12] rfl ?_
              exact J92 (by omega) (fun h => absurd h (by omega))
        · skip
          refine w_iconst F (nI 0) dX1_merge_48 (by decide) ?_
          refine w_istore F [(0, .ref hs), (1, .ref h1), (2, .ref h2), (3, .int (nI n)), (4, .ref h4), (5, .ref h5), (6, .ref h6), (7, .int (nI ((n + 2) / 3))), (8, .int (nI ((n + 1) / 3))), (9, .int (nI ((n + 2) / 3 + n / 3))), (10, .int (nI p)), (11, .int (nI t)), (12, .int (nI k)), (13, .int (nI 0))] dX1_merge_49 (by decide) rfl rfl ?_
          refine w_goto F 87 dX1_merge_51 (by decide) ?_
          refine w_iload F dX1_merge_87 13 rfl ?_
          refine w_if_eq F 136 dX1_merge_89 (by decide) (by omega) (fun z => ?_) (fun z => ?_)
          · skip
            refine w_lsub [0, 1, 2, 3, 4, 5, 6, 7, 8, 9, 10, 11, 12] rfl ?_
            exact J136 (by omega) (fun h => absurd h (by omega))
          · skip
            exact absurd rfl z
  refine w_iload_n F dX1_merge_0 3 rfl ?_
  refine w_iconst F (nI 2) dX1_merge_1 (by decide) ?_
  refine w_iadd F dX1_merge_2 ?_
  refine w_iconst F (nI 3) dX1_merge_3 (by decide) ?_
  refine w_idiv F dX1_merge_4 (by omega) (by omega) (by omega) ?_
  refine w_istore F [(0, .ref hs), (1, .ref h1), (2, .ref h2), (3, .int (nI n)), (4, .ref h4), (5, .ref h5), (6, .ref h6), (7, .int (nI ((n + 2) / 3)))] dX1_merge_5 (by decide) rfl rfl ?_
  refine w_iload_n F dX1_merge_7 3 rfl ?_
  refine w_iconst F (nI 1) dX1_merge_8 (by decide) ?_
  refine w_iadd F dX1_merge_9 ?_
  refine w_iconst F (nI 3) dX1_merge_10 (by decide) ?_
  refine w_idiv F dX1_merge_11 (by omega) (by omega) (by omega) ?_
  refine w_istore F [(0, .ref hs), (1, .ref h1), (2, .ref h2), (3, .int (nI n)), (4, .ref h4), (5, .ref h5), (6, .ref h6), (7, .int (nI ((n + 2) / 3))), (8, .int (nI ((n + 1) / 3)))] dX1_merge_12 (by decide) rfl rfl ?_
  refine w_iload F dX1_merge_14 7 rfl ?_
  refine w_iload_n F dX1_merge_16 3 rfl ?_
  refine w_iconst F (nI 3) dX1_merge_17 (by decide) ?_
  refine w_idiv F dX1_merge_18 (by omega) (by omega) (by omega) ?_
  refine w_iadd F dX1_merge_19 ?_
  refine w_istore F [(0, .ref hs), (1, .ref h1), (2, .ref h2), (3, .int (nI n)), (4, .ref h4), (5, .ref h5), (6, .ref h6), (7, .int (nI ((n + 2) / 3))), (8, .int (nI ((n + 1) / 3))), (9, .int (nI (((n + 2) / 3) + (n / 3))))] dX1_merge_20 (by decide) rfl rfl ?_
  refine w_iconst F (nI 0) dX1_merge_22 (by decide) ?_
  refine w_istore F [(0, .ref hs), (1, .ref h1), (2, .ref h2), (3, .int (nI n)), (4, .ref h4), (5, .ref h5), (6, .ref h6), (7, .int (nI ((n + 2) / 3))), (8, .int (nI ((n + 1) / 3))), (9, .int (nI (((n + 2) / 3) + (n / 3)))), (10, .int (nI 0))] dX1_merge_23 (by decide) rfl rfl ?_
  refine w_iload F dX1_merge_25 7 rfl ?_
  refine w_iload F dX1_merge_27 8 rfl ?_
  refine w_isub F dX1_merge_29 (by omega) ?_
  refine w_istore F [(0, .ref hs), (1, .ref h1), (2, .ref h2), (3, .int (nI n)), (4, .ref h4), (5, .ref h5), (6, .ref h6), (7, .int (nI ((n + 2) / 3))), (8, .int (nI ((n + 1) / 3))), (9, .int (nI (((n + 2) / 3) + (n / 3)))), (10, .int (nI 0)), (11, .int (nI (((n + 2) / 3) - ((n + 1) / 3))))] dX1_merge_30 (by decide) rfl rfl ?_
  refine w_iconst F (nI 0) dX1_merge_32 (by decide) ?_
  refine w_istore F [(0, .ref hs), (1, .ref h1), (2, .ref h2), (3, .int (nI n)), (4, .ref h4), (5, .ref h5), (6, .ref h6), (7, .int (nI ((n + 2) / 3))), (8, .int (nI ((n + 1) / 3))), (9, .int (nI (((n + 2) / 3) + (n / 3)))), (10, .int (nI 0)), (11, .int (nI (((n + 2) / 3) - ((n + 1) / 3)))), (12, .int (nI 0))] dX1_merge_33 (by decide) rfl rfl ?_
  exact L1 (n + 1) 0 0 _ _ (by omega) (by omega) (by omega) (by omega) (by omega) (by omega) MI_0
end
section
/-! plain law: what sort does between its calls -/
theorem w_ws {M : MC} {D : va_G} {A : Nat → Prop} {nL : Nat} {Q : State → Prop} {ws : va_W} {cells slots pc : Nat} {lv : List (Nat × Value)} {st : List Value} (ws' : va_W) (h : ws = ws') (kk : WW M D A nL Q ws' cells slots pc lv st) : WW M D A nL Q ws cells slots pc lv st := h ▸ kk
def FI (i j : Nat) (g : Nat → Nat) : Prop := j = i - (i + 2) / 3 ∧ (∀ x, x < j → g x = p3 x) ∧ ∀ x, j ≤ x → g x = 0
theorem FI_skip {i j : Nat} {g : Nat → Nat} (h : FI i j g) (hi : i % 3 = 0) : FI (i + 1) j g := ⟨by have := h.1; omega, h.2⟩
theorem FI_put {i j : Nat} {g : Nat → Nat} (h : FI i j g) (hi : i % 3 ≠ 0) : FI (i + 1) (j + 1) (upN g j i) := by
  obtain ⟨h1, h2, h3⟩ := h
  refine ⟨by omega, fun x hx => ?_, fun x hx => ?_⟩
  · by_cases e : x = j
    · rw [e, upN_same]; unfold p3; omega
    · rw [upN_ne e]; exact h2 x (by omega)
  · rw [upN_ne (by omega)]; exact h3 x (by omega)
theorem FI_lt {n i j : Nat} {g : Nat → Nat} (h : FI i j g) (hi : i < n + (n + 2) / 3 - (n + 1) / 3) : j < (n + 2) / 3 + n / 3 ∨ i % 3 = 0 := by
  have := h.1
  rcases (show n % 3 = 0 ∨ n % 3 = 1 ∨ n % 3 = 2 by omega) with q | q | q <;> rcases (show i % 3 = 0 ∨ i % 3 = 1 ∨ i % 3 = 2 by omega) with z | z | z <;> omega
theorem FI_end {n j : Nat} {g : Nat → Nat} (h : FI (n + (n + 2) / 3 - (n + 1) / 3) j g) : (∀ x, x < (n + 2) / 3 + n / 3 → g x = p3 x) ∧ ∀ x, (n + 2) / 3 + n / 3 ≤ x → g x = 0 := by
  have e : j = (n + 2) / 3 + n / 3 := by
    have := h.1
    rcases (show n % 3 = 0 ∨ n % 3 = 1 ∨ n % 3 = 2 by omega) with q | q | q <;> omega
  rw [← e]
  exact h.2
/-- three stable passes: sorted by threes -/
theorem three_pass {s g1 o1 g2 o3 σ1 σ2 σ3 : Nat → Nat} {m : Nat} (h1 : Stab (fun k => s (g1 k + 2)) m σ1) (e1 : ∀ a, a < m → o1 a = g1 (σ1 a)) (h2 : Stab (fun k => s (o1 k + 1)) m σ2) (e2 : ∀ a, a < m → g2 a = o1 (σ2 a)) (h3 : Stab (fun k => s (g2 k + 0)) m σ3) (e3 : ∀ a, a < m → o3 a = g2 (σ3 a)) :
    ∃ τ : Nat → Nat, (∀ a, a < m → τ a < m) ∧ (∀ a b, a < m → b < m → τ a = τ b → a = b) ∧ (∀ a, a < m → o3 a = g1 (τ a)) ∧ ∀ a b, a < b → b < m → T3le s (o3 a) (o3 b) := by
  have r1 := stab_pw (R := fun _ _ => True) h1 e1 (fun p => s (p + 2)) (fun _ _ => rfl) (fun _ _ _ _ => trivial)
  have r2 := stab_pw (R := fun p q => s (p + 2) < s (q + 2) ∨ (s (p + 2) = s (q + 2) ∧ True)) h2 e2 (fun p => s (p + 1)) (fun _ _ => rfl) r1
  have r3 := stab_pw (R := fun p q => s (p + 1) < s (q + 1) ∨ (s (p + 1) = s (q + 1) ∧ (s (p + 2) < s (q + 2) ∨ (s (p + 2) = s (q + 2) ∧ True)))) h3 e3 (fun p => s (p + 0)) (fun _ _ => rfl) r2
  refine ⟨fun a => σ1 (σ2 (σ3 a)), fun a ha => h1.1 _ (h2.1 _ (h3.1 a ha)), fun a b ha hb e => ?_, fun a ha => ?_, fun a b hab hb => ?_⟩
  · exact h3.inj a b ha hb (h2.inj _ _ (h3.1 a ha) (h3.1 b hb) (h1.inj _ _ (h2.1 _ (h3.1 a ha)) (h2.1 _ (h3.1 b hb)) e))
  · rw [e3 a ha, e2 _ (h3.1 a ha), e1 _ (h2.1 _ (h3.1 a ha))]
  · have q := r3 a b hab hb
    unfold T3le
    simp only [Nat.add_zero, and_true] at q
    omega
section GLUE
variable {n : Nat} {s : Nat → Nat}
/-- the names given to the places of two thirds -/
def NM (n : Nat) (s o R : Nat → Nat) : Prop := (∀ x, x < (n + 2) / 3 + n / 3 → ∃ a, a < (n + 2) / 3 + n / 3 ∧ px ((n + 2) / 3) x = o a ∧ R x = nmc s o (a + 1)) ∧ (∀ a, a < (n + 2) / 3 + n / 3 → R (ix ((n + 2) / 3) (o a)) = nmc s o (a + 1)) ∧ (∀ x, (n + 2) / 3 + n / 3 ≤ x → R x = 0) ∧ ∀ a b, a < b → b < (n + 2) / 3 + n / 3 → T3le s (o a) (o b)
theorem o3_ok {g1 o3 τ : Nat → Nat} (hg : ∀ x, x < (n + 2) / 3 + n / 3 → g1 x = p3 x) (h1 : ∀ a, a < (n + 2) / 3 + n / 3 → τ a < (n + 2) / 3 + n / 3) (h3 : ∀ a, a < (n + 2) / 3 + n / 3 → o3 a = g1 (τ a)) {a : Nat} (ha : a < (n + 2) / 3 + n / 3) : o3 a % 3 ≠ 0 ∧ o3 a < n + (n + 2) / 3 - (n + 1) / 3 ∧ px ((n + 2) / 3) (ix ((n + 2) / 3) (o3 a)) = o3 a ∧ ix ((n + 2) / 3) (o3 a) < (n + 2) / 3 + n / 3 := by
  have e : o3 a = p3 (τ a) := by rw [h3 a ha, hg _ (h1 a ha)]
  have q1 := p3_mod (τ a)
  have q2 := p3_lt (h1 a ha)
  rw [← e] at q1 q2
  exact ⟨q1, q2, px_ix q1 (by omega), ix_lt q1 q2⟩
theorem o3_inj {g1 o3 τ : Nat → Nat} (hg : ∀ x, x < (n + 2) / 3 + n / 3 → g1 x = p3 x) (h1 : ∀ a, a < (n + 2) / 3 + n / 3 → τ a < (n + 2) / 3 + n / 3) (h2 : ∀ a b, a < (n + 2) / 3 + n / 3 → b < (n + 2) / 3 + n / 3 → τ a = τ b → a = b) (h3 : ∀ a, a < (n + 2) / 3 + n / 3 → o3 a = g1 (τ a)) (a b : Nat) (ha : a < (n + 2) / 3 + n / 3) (hb : b < (n + 2) / 3 + n / 3) (e : ix ((n + 2) / 3) (o3 a) = ix ((n + 2) / 3) (o3 b)) : a = b := by
  obtain ⟨-, -, a1, -⟩ := o3_ok hg h1 h3 ha
  obtain ⟨-, -, b1, -⟩ := o3_ok hg h1 h3 hb
  rw [e, b1] at a1
  rw [h3 a ha, h3 b hb, hg _ (h1 a ha), hg _ (h1 b hb)] at a1
  exact h2 a b ha hb (p3_inj a1.symm)
theorem NM_of {g1 g2 o3 τ R : Nat → Nat} (hg : ∀ x, x < (n + 2) / 3 + n / 3 → g1 x = p3 x) (h1 : ∀ a, a < (n + 2) / 3 + n / 3 → τ a < (n + 2) / 3 + n / 3) (h2 : ∀ a b, a < (n + 2) / 3 + n / 3 → b < (n + 2) / 3 + n / 3 → τ a = τ b → a = b) (h3 : ∀ a, a < (n + 2) / 3 + n / 3 → o3 a = g1 (τ a)) (h4 : ∀ a b, a < b → b < (n + 2) / 3 + n / 3 → T3le s (o3 a) (o3 b)) (hI : NI s o3 ((n + 2) / 3) g2 ((n + 2) / 3 + n / 3) R) (hg2 : ∀ x, (n + 2) / 3 + n / 3 ≤ x → g2 x = 0) : NM n s o3 R := by
  refine ⟨fun x hx => ?_, hI.1, fun x hx => ?_, h4⟩
  · obtain ⟨a, ha, hax⟩ := rs_surj (f := fun a => ix ((n + 2) / 3) (o3 a)) (fun a ha => (o3_ok hg h1 h3 ha).2.2.2) (fun a b ha hb e => o3_inj hg h1 h2 h3 a b ha hb e) x hx
    have hax : ix ((n + 2) / 3) (o3 a) = x := hax
    refine ⟨a, ha, ?_, ?_⟩
    · rw [← hax]; exact (o3_ok hg h1 h3 ha).2.2.1
    · rw [← hax]; exact hI.1 a ha
  · rw [hI.2 x (fun j hj e => ?_)]
    · exact hg2 x hx
    · have := (o3_ok hg h1 h3 hj).2.2.2
      omega
theorem NM_1 {o R : Nat → Nat} (h : NM n s o R) : ∀ x, x < (n + 2) / 3 + n / 3 → 1 ≤ R x ∧ R x ≤ nmc s o ((n + 2) / 3 + n / 3) := by
  intro x hx
  obtain ⟨a, h1, -, h3⟩ := h.1 x hx
  rw [h3]
  exact ⟨nmc_pos s o a, nmc_mono s o h1⟩
theorem NM_lex {o R : Nat → Nat} (hp : ∀ i, i < n → 1 ≤ s i) (hz : ∀ i, n ≤ i → s i = 0) (h : NM n s o R) {x y : Nat} (hx : x < (n + 2) / 3 + n / 3) (hy : y < (n + 2) / 3 + n / 3) (hl : lexLt R x y) : lexLt s (px ((n + 2) / 3) x) (px ((n + 2) / 3) y) := by
  obtain ⟨d, h1, h2⟩ := hl
  refine lex_names hp hz h.2.2.1 (fun x hx => (NM_1 h x hx).1) ?_ ?_ d x y hx hy h1 h2
  · intro x y hx hy e
    obtain ⟨a, a1, a2, a3⟩ := h.1 x hx
    obtain ⟨b, b1, b2, b3⟩ := h.1 y hy
    rw [a2, b2]
    rw [a3, b3] at e
    rcases Nat.le_total a b with q | q
    · exact nmc_eq q e
    · obtain ⟨z1, z2, z3⟩ := nmc_eq q e.symm
      exact ⟨z1.symm, z2.symm, z3.symm⟩
  · intro x y hx hy e
    obtain ⟨a, a1, a2, a3⟩ := h.1 x hx
    obtain ⟨b, b1, b2, b3⟩ := h.1 y hy
    rw [a2, b2]
    rw [a3, b3] at e
    exact nmc_lt h.2.2.2 a1 b1 e
/-- two thirds in order, with their ranks -/
def RK (n : Nat) (s rk o : Nat → Nat) : Prop := (∀ a, a < (n + 2) / 3 + n / 3 → o a < (n + 2) / 3 + n / 3) ∧ (∀ a, a < (n + 2) / 3 + n / 3 → rk (o a) = a + 1) ∧ (∀ x, (n + 2) / 3 + n / 3 ≤ x → rk x = 0) ∧ ∀ a b, a < b → b < (n + 2) / 3 + n / 3 → lexLt s (px ((n + 2) / 3) (o a)) (px ((n + 2) / 3) (o b))
theorem SA_inj {m : Nat} {R o : Nat → Nat} (h : SA m R o) (a b : Nat) (ha : a < m) (hb : b < m) (e : o a = o b) : a = b := by
  rcases Nat.lt_trichotomy a b with q | q | q
  · have := h.2 a b q hb; rw [e] at this; exact (lex_irr this).elim
  · exact q
  · have := h.2 b a q ha; rw [e] at this; exact (lex_irr this).elim
/-- the loop that lays the ranks: s12[order12[k]] = k + 1 -/
def RI (m : Nat) (R0 o : Nat → Nat) (k : Nat) (R : Nat → Nat) : Prop := (∀ a, a < k → R (o a) = a + 1) ∧ ∀ x, m ≤ x → R x = R0 x
theorem RI_step {m k : Nat} {R0 o R : Nat → Nat} (ho : ∀ a, a < m → o a < m) (hi : ∀ a b, a < m → b < m → o a = o b → a = b) (h : RI m R0 o k R) (hk : k < m) : RI m R0 o (k + 1) (upN R (o k) (k + 1)) := by
  refine ⟨fun a ha => ?_, fun x hx => ?_⟩
  · by_cases e : a = k
    · rw [e, upN_same]
    · rw [upN_ne (fun z => e (hi a k (by omega) hk z))]; exact h.1 a (by omega)
  · have := ho k hk
    rw [upN_ne (by omega)]; exact h.2 x hx
theorem RK_rec {o3 R rk o : Nat → Nat} (hp : ∀ i, i < n → 1 ≤ s i) (hz : ∀ i, n ≤ i → s i = 0) (h : NM n s o3 R) (hS : SA ((n + 2) / 3 + n / 3) R o) (hI : RI ((n + 2) / 3 + n / 3) R o ((n + 2) / 3 + n / 3) rk) : RK n s rk o :=
  ⟨hS.1, hI.1, fun x hx => (hI.2 x hx).trans (h.2.2.1 x hx), fun a b hab hb => NM_lex hp hz h (hS.1 a (by omega)) (hS.1 b hb) (hS.2 a b hab hb)⟩
/-- the loop of the other branch: order12[s12[k] - 1] = k -/
def OI (R : Nat → Nat) (k : Nat) (o : Nat → Nat) : Prop := ∀ x, x < k → o (R x - 1) = x
theorem OI_step {m k : Nat} {R o : Nat → Nat} (hi : ∀ x y, x < m → y < m → R x - 1 = R y - 1 → x = y) (h : OI R k o) (hk : k < m) : OI R (k + 1) (upN o (R k - 1) k) := by
  intro x hx
  by_cases e : x = k
  · rw [e, upN_same]
  · rw [upN_ne (fun z => e (hi x k (by omega) hk z))]; exact h x (by omega)
theorem NM_full {o3 R : Nat → Nat} (h : NM n s o3 R) (hf : nmc s o3 ((n + 2) / 3 + n / 3) = (n + 2) / 3 + n / 3) : ∀ x, x < (n + 2) / 3 + n / 3 → ∃ a, a < (n + 2) / 3 + n / 3 ∧ px ((n + 2) / 3) x = o3 a ∧ R x = a + 1 := by
  intro x hx
  obtain ⟨a, h1, h2, h3⟩ := h.1 x hx
  exact ⟨a, h1, h2, by rw [h3]; exact nmc_full hf (a + 1) h1⟩
theorem NM_inj {o3 R : Nat → Nat} (h : NM n s o3 R) (hf : nmc s o3 ((n + 2) / 3 + n / 3) = (n + 2) / 3 + n / 3) (x y : Nat) (hx : x < (n + 2) / 3 + n / 3) (hy : y < (n + 2) / 3 + n / 3) (e : R x - 1 = R y - 1) : x = y := by
  obtain ⟨a, a1, a2, a3⟩ := NM_full h hf x hx
  obtain ⟨b, b1, b2, b3⟩ := NM_full h hf y hy
  have : a = b := by omega
  subst this
  exact px_inj (a2.trans b2.symm)
theorem RK_flat {o3 R o : Nat → Nat} (hp : ∀ i, i < n → 1 ≤ s i) (hz : ∀ i, n ≤ i → s i = 0) (h : NM n s o3 R) (hf : nmc s o3 ((n + 2) / 3 + n / 3) = (n + 2) / 3 + n / 3) (hI : OI R ((n + 2) / 3 + n / 3) o) : RK n s R o := by
  have key : ∀ a, a < (n + 2) / 3 + n / 3 → ∃ x, x < (n + 2) / 3 + n / 3 ∧ o a = x ∧ R x = a + 1 := by
    intro a ha
    obtain ⟨x, hx, hxa⟩ := rs_surj (f := fun x => R x - 1) (fun x hx => by obtain ⟨b, b1, -, b3⟩ := NM_full h hf x hx; show R x - 1 < _; omega) (fun x y hx hy e => NM_inj h hf x y hx hy e) a ha
    have hxa : R x - 1 = a := hxa
    obtain ⟨b, b1, -, b3⟩ := NM_full h hf x hx
    refine ⟨x, hx, ?_, by omega⟩
    have := hI x hx
    rw [hxa] at this
    exact this
  refine ⟨fun a ha => ?_, fun a ha => ?_, h.2.2.1, fun a b hab hb => ?_⟩
  · obtain ⟨x, h1, h2, -⟩ := key a ha
    omega
  · obtain ⟨x, h1, h2, h3⟩ := key a ha
    rw [h2]; exact h3
  · obtain ⟨x, x1, x2, x3⟩ := key a (by omega)
    obtain ⟨y, y1, y2, y3⟩ := key b hb
    rw [x2, y2]
    refine NM_lex hp hz h x1 y1 ?_
    rw [lex_iff]
    left
    omega
theorem RK_inj {rk o : Nat → Nat} (h : RK n s rk o) (a b : Nat) (ha : a < (n + 2) / 3 + n / 3) (hb : b < (n + 2) / 3 + n / 3) (e : o a = o b) : a = b := by
  have h1 := h.2.1 a ha
  have h2 := h.2.1 b hb
  rw [e] at h1
  omega
theorem RK_surj {rk o : Nat → Nat} (h : RK n s rk o) {x : Nat} (hx : x < (n + 2) / 3 + n / 3) : ∃ a, a < (n + 2) / 3 + n / 3 ∧ o a = x := rs_surj h.1 (RK_inj h) x hx
/-- the loop that takes the third places by the order of those behind them -/
def ZI (s o : Nat → Nat) (n0 k j : Nat) (g : Nat → Nat) : Prop := j = cl o n0 k ∧ (∀ a, a < j → ∃ i, i < k ∧ o i < n0 ∧ g a = 3 * o i) ∧ ∀ a b, a < b → b < j → lexLt s (g a + 1) (g b + 1)
theorem ZI_0 {s o g : Nat → Nat} {n0 : Nat} : ZI s o n0 0 0 g := ⟨rfl, fun _ h => absurd h (Nat.not_lt_zero _), fun _ _ _ h => absurd h (Nat.not_lt_zero _)⟩
theorem ZI_skip {o g : Nat → Nat} {n0 k j : Nat} (h : ZI s o n0 k j g) (hk : n0 ≤ o k) : ZI s o n0 (k + 1) j g := by
  refine ⟨?_, fun a ha => ?_, h.2.2⟩
  · rw [cl_s, if_neg (by omega)]; exact h.1
  · obtain ⟨i, h1, h2⟩ := h.2.1 a ha
    exact ⟨i, by omega, h2⟩
theorem ZI_put {rk o g : Nat → Nat} {k j : Nat} (hR : RK n s rk o) (h : ZI s o ((n + 2) / 3) k j g) (hk : o k < (n + 2) / 3) (hkm : k < (n + 2) / 3 + n / 3) : ZI s o ((n + 2) / 3) (k + 1) (j + 1) (upN g j (3 * o k)) := by
  refine ⟨?_, fun a ha => ?_, fun a b hab hb => ?_⟩
  · rw [cl_s, if_pos hk, ← h.1]
  · by_cases e : a = j
    · exact ⟨k, by omega, hk, by rw [e, upN_same]⟩
    · obtain ⟨i, h1, h2, h3⟩ := h.2.1 a (by omega)
      exact ⟨i, by omega, h2, by rw [upN_ne e]; exact h3⟩
  · by_cases e : b = j
    · obtain ⟨i, h1, h2, h3⟩ := h.2.1 a (by omega)
      rw [e, upN_same, upN_ne (by omega), h3]
      have := hR.2.2.2 i k h1 hkm
      rw [px_lo h2, px_lo hk] at this
      exact this
    · rw [upN_ne (by omega), upN_ne e]
      exact h.2.2 a b hab (by omega)
theorem ZI_lt {rk o g : Nat → Nat} {k j : Nat} (hR : RK n s rk o) (h : ZI s o ((n + 2) / 3) k j g) (hk : o k < (n + 2) / 3) (hkm : k < (n + 2) / 3 + n / 3) : j < (n + 2) / 3 := by
  have h1 := cl_lt o hkm hk
  rw [cl_bij hR.1 (RK_inj hR) ((n + 2) / 3) (by omega)] at h1
  rw [h.1]; exact h1
theorem ZI_end {rk o g : Nat → Nat} {j : Nat} (hR : RK n s rk o) (h : ZI s o ((n + 2) / 3) ((n + 2) / 3 + n / 3) j g) : j = (n + 2) / 3 ∧ (∀ a, a < (n + 2) / 3 → g a < n ∧ g a % 3 = 0) ∧ ∀ a b, a < b → b < (n + 2) / 3 → lexLt s (g a + 1) (g b + 1) := by
  have e : j = (n + 2) / 3 := by rw [h.1]; exact cl_bij hR.1 (RK_inj hR) ((n + 2) / 3) (by omega)
  refine ⟨e, fun a ha => ?_, fun a b hab hb => h.2.2 a b hab (by omega)⟩
  obtain ⟨i, h1, h2, h3⟩ := h.2.1 a (by omega)
  omega
theorem MP_of {rk o12 g0 o0 σ : Nat → Nat} (hp : ∀ i, i < n → 1 ≤ s i) (hz : ∀ i, n ≤ i → s i = 0) (hR : RK n s rk o12) (hg : ∀ a, a < (n + 2) / 3 → g0 a < n ∧ g0 a % 3 = 0) (hgs : ∀ a b, a < b → b < (n + 2) / 3 → lexLt s (g0 a + 1) (g0 b + 1)) (hσ : Stab (fun k => s (g0 k + 0)) ((n + 2) / 3) σ) (ho : ∀ a, a < (n + 2) / 3 → o0 a = g0 (σ a)) : MP n s rk o12 o0 := by
  have hri : ∀ x y, x < (n + 2) / 3 + n / 3 → y < (n + 2) / 3 + n / 3 → rk x = rk y → x = y := by
    intro x y hx hy e
    obtain ⟨a, a1, a2⟩ := RK_surj hR hx
    obtain ⟨b, b1, b2⟩ := RK_surj hR hy
    have h1 := hR.2.1 a a1
    have h2 := hR.2.1 b b1
    rw [a2] at h1
    rw [b2] at h2
    have : a = b := by omega
    rw [← a2, ← b2, this]
  refine ⟨hp, hz, fun x y hx hy => ?_, fun x hx => ?_, hR.2.2.1, hri, hR.1, hR.2.2.2, fun t h1 h2 => ?_, fun p hp' => ?_, fun a b hab hb => ?_⟩
  · obtain ⟨a, a1, a2⟩ := RK_surj hR hx
    obtain ⟨b, b1, b2⟩ := RK_surj hR hy
    have h1 := hR.2.1 a a1
    have h2 := hR.2.1 b b1
    rw [a2] at h1
    rw [b2] at h2
    constructor
    · intro h
      have := hR.2.2.2 a b (by omega) b1
      rw [a2, b2] at this
      exact this
    · intro h
      rcases Nat.lt_trichotomy a b with q | q | q
      · omega
      · subst q
        rw [a2] at b2
        subst b2
        exact (lex_irr h).elim
      · have := hR.2.2.2 b a q a1
        rw [a2, b2] at this
        exact (lex_asym h this).elim
  · obtain ⟨a, a1, a2⟩ := RK_surj hR hx
    have h1 := hR.2.1 a a1
    rw [a2] at h1
    omega
  · have ok := px_ok (hR.1 t h2)
    rcases Nat.lt_or_ge (px ((n + 2) / 3) (o12 t)) n with q | q
    · exact q
    · exfalso
      have hn : n % 3 = 1 := by omega
      have ht : 0 < t := by omega
      have := hR.2.2.2 0 t ht h2
      exact lex_zero hz q this
  · rw [ho p hp']
    exact hg _ (hσ.1 p hp')
  · have q := stab_pw (R := fun p q => lexLt s (p + 1) (q + 1)) hσ ho (fun p => s (p + 0)) (fun _ _ => rfl) hgs a b hab hb
    rw [lex_iff]
    exact q
end GLUE
/-- the row with zeros behind its n numbers -/
def zx (n : Nat) (s : Nat → Nat) : Nat → Nat := fun i => if i < n then s i else 0
theorem zx_lo {n : Nat} {s : Nat → Nat} {i : Nat} (h : i < n) : zx n s i = s i := if_pos h
theorem zx_hi {n : Nat} {s : Nat → Nat} {i : Nat} (h : n ≤ i) : zx n s i = 0 := if_neg (by omega)
theorem zx_self {n : Nat} {s : Nat → Nat} (h : ∀ i, n ≤ i → s i = 0) : zx n s = s := by
  funext i
  rcases Nat.lt_or_ge i n with q | q
  · exact zx_lo q
  · rw [zx_hi q, h i q]
theorem zx_eq {n : Nat} {s : Nat → Nat} (h0 : s n = 0) (h1 : s (n + 1) = 0) (h2 : s (n + 2) = 0) (i : Nat) (hi : i ≤ n + 2) : s i = zx n s i := by
  rcases Nat.lt_or_ge i n with q | q
  · rw [zx_lo q]
  · rw [zx_hi q]
    rcases (show i = n ∨ i = n + 1 ∨ i = n + 2 by omega) with e | e | e <;> rw [e] <;> assumption
theorem Stab.congr {κ κ' : Nat → Nat} {m : Nat} {σ : Nat → Nat} (h : Stab κ m σ) (e : ∀ k, k < m → κ k = κ' k) : Stab κ' m σ := by
  refine ⟨h.1, fun a b hab hb => ?_⟩
  have := h.2 a b hab hb
  rw [e _ (h.1 a (by omega)), e _ (h.1 b hb)] at this
  exact this
theorem nmc_congr {s S o : Nat → Nat} {m : Nat} (h : ∀ k, k < m → s (o k) = S (o k) ∧ s (o k + 1) = S (o k + 1) ∧ s (o k + 2) = S (o k + 2)) : ∀ k, k ≤ m → nmc s o k = nmc S o k := by
  intro k
  induction k with
  | zero => intro _; rfl
  | succ k ih =>
    intro hk
    obtain ⟨a1, a2, a3⟩ := h k (by omega)
    obtain ⟨b1, b2, b3⟩ := h (k - 1) (by omega)
    rw [nmc_s, nmc_s, ih (by omega), a1, a2, a3, b1, b2, b3]
theorem NI_congr {s S o r0 rr : Nat → Nat} {n0 m : Nat} (h : ∀ k, k < m → s (o k) = S (o k) ∧ s (o k + 1) = S (o k + 1) ∧ s (o k + 2) = S (o k + 2)) (hI : NI s o n0 r0 m rr) : NI S o n0 r0 m rr :=
  ⟨fun j hj => by rw [hI.1 j hj, nmc_congr h (j + 1) hj], hI.2⟩
end
section
theorem sl_ok (n : Nat) (h : 2 ≤ n) : ((n + 2) / 3 + n / 3 + 3) + ((n + 2) / 3 + n / 3 + 3) + (n + 2) / 3 + (n + 2) / 3 + 20 * ((n + 2) / 3 + n / 3) ≤ 20 * n := by
  rcases (show n % 3 = 0 ∨ n % 3 = 1 ∨ n % 3 = 2 by omega) with q | q | q <;> omega
set_option maxHeartbeats 8000000 in
set_option maxRecDepth 100000 in
/-- sort: the suffixes of the row in order -/
theorem met_sort (l : Launch) (D : va_G) (dA : ClassId) : ∀ (N n : Nat), n ≤ N → ∀ (hs hc h1 h2 : Nat) (cnt0 s ord0 : Nat → Nat) (L1 L2 most : Nat), 1 ≤ n → n ≤ 300 → L1 < 10000 → L2 < 10000 → n + 2 < L1 → n ≤ L2 → most < 264 → (∀ i, i < n → 1 ≤ s i) → (∀ i, i < n → s i ≤ most) → s n = 0 → s (n + 1) = 0 → s (n + 2) = 0 → (∀ i, s i < 1000) →
    CTV l D dA yX1_sort cX1_sort 16 ({ frames := n + 3, cells := 4 * n, slots := 20 * n, locals := 35 * n + 81 } : Room) [.ref hs, .ref h1, .ref h2, .int (nI n), .int (nI most)] [(hs, .inr (1, [.ref hc])), (hc, ar dA 264 cnt0), (h1, ar dA L1 s), (h2, ar dA L2 ord0)] (S := (Nat → Nat) × (Nat → Nat)) (fun u => SA n (zx n s) u.2) (fun u => [(hs, .inr (1, [.ref hc])), (hc, ar dA 264 u.1), (h1, ar dA L1 s), (h2, ar dA L2 u.2)]) := by
  intro N
  induction N with
  | zero => intro n hN hs hc h1 h2 cnt0 s ord0 L1 L2 most hn1; exfalso; omega
  | succ N IH =>
  intro n hN hs hc h1 h2 cnt0 s ord0 L1 L2 most hn1 hn2 hL1 hL2 g1 g2 hm hp0 hsm0 hz0 hz1 hz2 hsb
  refine CTV.intro (by decide) (Nat.le_of_ble_eq_true rfl) ?_
  intro M A F hin
  have F : FX M l D dA A cX1_sort 16 RX1 none ({ frames := n + 3, cells := 4 * n, slots := 20 * n, locals := 35 * n + 81 } : Room) := F
  generalize hQ : QV M D dA A _ _ _ = Q
  have hE := zx_eq hz0 hz1 hz2
  have hp : ∀ i, i < n → 1 ≤ zx n s i := fun i hi => by rw [zx_lo hi]; exact hp0 i hi
  have hz : ∀ i, n ≤ i → zx n s i = 0 := fun i hi => zx_hi hi
  have hsm : ∀ i, i ≤ n + 2 → s i ≤ most := fun i hi => by rcases Nat.lt_or_ge i n with q | q; exact hsm0 i q; (rw [hE i hi, zx_hi q]; exact Nat.zero_le _)
  generalize hS : zx n s = S at hE hp hz hQ
  show WW M D A 16 Q _ 0 0 0 [(0, .ref hs), (1, .ref h1), (2, .ref h2), (3, .int (nI n)), (4, .int (nI most))] []
  refine w_iload_n F dX1_sort_0 3 rfl ?_
  refine w_iconst F (nI 1) dX1_sort_1 (by decide) ?_
  refine w_icmp_ne F 10 dX1_sort_2 (by decide) (by omega) (by omega) (fun c0 => ?_) (fun c0 => ?_)
  · skip
    have hsl := sl_ok n (by omega)
    refine w_iload_n F dX1_sort_10 3 rfl ?_
    refine w_iconst F (nI 2) dX1_sort_11 (by decide) ?_
    refine w_iadd F dX1_sort_12 ?_
    refine w_iconst F (nI 3) dX1_sort_13 (by decide) ?_
    refine w_idiv F dX1_sort_14 (by omega) (by omega) (by omega) ?_
    refine w_istore F [(0, .ref hs), (1, .ref h1), (2, .ref h2), (3, .int (nI n)), (4, .int (nI most)), (5, .int (nI ((n + 2) / 3)))] dX1_sort_15 (by decide) rfl rfl ?_
    refine w_iload_n F dX1_sort_17 3 rfl ?_
    refine w_iconst F (nI 1) dX1_sort_18 (by decide) ?_
    refine w_iadd F dX1_sort_19 ?_
    refine w_iconst F (nI 3) dX1_sort_20 (by decide) ?_
    refine w_idiv F dX1_sort_21 (by omega) (by omega) (by omega) ?_
    refine w_istore F [(0, .ref hs), (1, .ref h1), (2, .ref h2), (3, .int (nI n)), (4, .int (nI most)), (5, .int (nI ((n + 2) / 3))), (6, .int (nI ((n + 1) / 3)))] dX1_sort_22 (by decide) rfl rfl ?_
    refine w_iload_n F dX1_sort_24 3 rfl ?_
    refine w_iconst F (nI 3) dX1_sort_25 (by decide) ?_
    refine w_idiv F dX1_sort_26 (by omega) (by omega) (by omega) ?_
    refine w_istore F [(0, .ref hs), (1, .ref h1), (2, .ref h2), (3, .int (nI n)), (4, .int (nI most)), (5, .int (nI ((n + 2) / 3))), (6, .int (nI ((n + 1) / 3))), (7, .int (nI (n / 3)))] dX1_sort_27 (by decide) rfl rfl ?_
    refine w_iload F dX1_sort_29 5 rfl ?_
    refine w_iload F dX1_sort_31 7 rfl ?_
    refine w_iadd F dX1_sort_33 ?_
    refine w_istore F [(0, .ref hs), (1, .ref h1), (2, .ref h2), (3, .int (nI n)), (4, .int (nI most)), (5, .int (nI ((n + 2) / 3))), (6, .int (nI ((n + 1) / 3))), (7, .int (nI (n / 3))), (8, .int (nI (((n + 2) / 3) + (n / 3))))] dX1_sort_34 (by decide) rfl rfl ?_
    refine w_iload F dX1_sort_36 8 rfl ?_
    refine w_iconst F (nI 3) dX1_sort_38 (by decide) ?_
    refine w_iadd F dX1_sort_39 ?_
    refine w_newa F dX1_sort_40 (by omega) (by first | omega | (dsimp only; omega)) (by first | omega | (dsimp only; omega)) (fun h9 => ?_)
    refine w_ws ([(hs, .inr (1, [.ref hc])), (hc, ar dA 264 cnt0), (h1, ar dA L1 s), (h2, ar dA L2 ord0), (h9, ar dA ((((n + 2) / 3) + (n / 3)) + 3) (fun _ => 0))]) rfl ?_
    refine w_astore F [(0, .ref hs), (1, .ref h1), (2, .ref h2), (3, .int (nI n)), (4, .int (nI most)), (5, .int (nI ((n + 2) / 3))), (6, .int (nI ((n + 1) / 3))), (7, .int (nI (n / 3))), (8, .int (nI (((n + 2) / 3) + (n / 3)))), (9, .ref h9)] dX1_sort_42 (by decide) rfl rfl ?_
    refine w_iload F dX1_sort_44 8 rfl ?_
    refine w_iconst F (nI 3) dX1_sort_46 (by decide) ?_
    refine w_iadd F dX1_sort_47 ?_
    refine w_newa F dX1_sort_48 (by omega) (by first | omega | (dsimp only; omega)) (by first | omega | (dsimp only; omega)) (fun h10 => ?_)
    refine w_ws ([(hs, .inr (1, [.ref hc])), (hc, ar dA 264 cnt0), (h1, ar dA L1 s), (h2, ar dA L2 ord0), (h9, ar dA ((((n + 2) / 3) + (n / 3)) + 3) (fun _ => 0)), (h10, ar dA ((((n + 2) / 3) + (n / 3)) + 3) (fun _ => 0))]) rfl ?_
    refine w_astore F [(0, .ref hs), (1, .ref h1), (2, .ref h2), (3, .int (nI n)), (4, .int (nI most)), (5, .int (nI ((n + 2) / 3))), (6, .int (nI ((n + 1) / 3))), (7, .int (nI (n / 3))), (8, .int (nI (((n + 2) / 3) + (n / 3)))), (9, .ref h9), (10, .ref h10)] dX1_sort_50 (by decide) rfl rfl ?_
    refine w_iload F dX1_sort_52 5 rfl ?_
    refine w_newa F dX1_sort_54 (by omega) (by first | omega | (dsimp only; omega)) (by first | omega | (dsimp only; omega)) (fun h11 => ?_)
    refine w_ws ([(hs, .inr (1, [.ref hc])), (hc, ar dA 264 cnt0), (h1, ar dA L1 s), (h2, ar dA L2 ord0), (h9, ar dA ((((n + 2) / 3) + (n / 3)) + 3) (fun _ => 0)), (h10, ar dA ((((n + 2) / 3) + (n / 3)) + 3) (fun _ => 0)), (h11, ar dA ((n + 2) / 3) (fun _ => 0))]) rfl ?_
    refine w_astore F [(0, .ref hs), (1, .ref h1), (2, .ref h2), (3, .int (nI n)), (4, .int (nI most)), (5, .int (nI ((n + 2) / 3))), (6, .int (nI ((n + 1) / 3))), (7, .int (nI (n / 3))), (8, .int (nI (((n + 2) / 3) + (n / 3)))), (9, .ref h9), (10, .ref h10), (11, .ref h11)] dX1_sort_56 (by decide) rfl rfl ?_
    refine w_iload F dX1_sort_58 5 rfl ?_
    refine w_newa F dX1_sort_60 (by omega) (by first | omega | (dsimp only; omega)) (by first | omega | (dsimp only; omega)) (fun h12 => ?_)
    refine w_ws ([(hs, .inr (1, [.ref hc])), (hc, ar dA 264 cnt0), (h1, ar dA L1 s), (h2, ar dA L2 ord0), (h9, ar dA ((((n + 2) / 3) + (n / 3)) + 3) (fun _ => 0)), (h10, ar dA ((((n + 2) / 3) + (n / 3)) + 3) (fun _ => 0)), (h11, ar dA ((n + 2) / 3) (fun _ => 0)), (h12, ar dA ((n + 2) / 3) (fun _ => 0))]) rfl ?_
    refine w_astore F [(0, .ref hs), (1, .ref h1), (2, .ref h2), (3, .int (nI n)), (4, .int (nI most)), (5, .int (nI ((n + 2) / 3))), (6, .int (nI ((n + 1) / 3))), (7, .int (nI (n / 3))), (8, .int (nI (((n + 2) / 3) + (n / 3)))), (9, .ref h9), (10, .ref h10), (11, .ref h11), (12, .ref h12)] dX1_sort_62 (by decide) rfl rfl ?_
    refine w_widen (k := 4) (n := ((n + 2) / 3 + n / 3 + 3) + ((n + 2) / 3 + n / 3 + 3) + ((n + 2) / 3) + ((n + 2) / 3)) (by omega) (by omega) ?_
    have J304 : ∀ (cnt rk o12 g0 o0 : Nat → Nat), (∀ i, rk i < 1000) → MP n S rk o12 o0 → WW M D A 16 Q [(hs, .inr (1, [.ref hc])), (hc, ar dA 264 cnt), (h1, ar dA L1 s), (h2, ar dA L2 ord0), (h9, ar dA ((n + 2) / 3 + n / 3 + 3) rk), (h10, ar dA ((n + 2) / 3 + n / 3 + 3) o12), (h11, ar dA ((n + 2) / 3) g0), (h12, ar dA ((n + 2) / 3) o0)] (4 * n) (20 * n) 304 [(0, .ref hs), (1, .ref h1), (2, .ref h2), (3, .int (nI n)), (4, .int (nI most)), (5, .int (nI ((n + 2) / 3))), (6, .int (nI ((n + 1) / 3))), (7, .int (nI (n / 3))), (8, .int (nI (((n + 2) / 3) + (n / 3)))), (9, .ref h9), (10, .ref h10), (11, .ref h11), (12, .ref h12)] [] := by
      intro cnt rk o12 g0 o0 hrb hMP
      refine w_aload_n F dX1_sort_304 0 rfl ?_
      refine w_aload_n F dX1_sort_305 1 rfl ?_
      refine w_aload_n F dX1_sort_306 2 rfl ?_
      refine w_iload_n F dX1_sort_307 3 rfl ?_
      refine w_aload F dX1_sort_308 9 rfl ?_
      refine w_aload F dX1_sort_310 10 rfl ?_
      refine w_aload F dX1_sort_312 12 rfl ?_
      refine w_callVV F (wr := [(hc, ar dA 264 cnt), (h11, ar dA ((n + 2) / 3) g0)]) (q0 := 0) (met_merge l D dA hs hc h1 h2 h9 h10 h12 s S rk o12 o0 ord0 L1 L2 ((n + 2) / 3 + n / 3 + 3) ((n + 2) / 3 + n / 3 + 3) ((n + 2) / 3) n hL1 hL2 (by omega) (by omega) (by omega) (by omega) (by omega) (by omega) (by omega) (by omega) (by omega) hsb hrb hE hMP) [0, 2, 3, 4, 5, 7] [1, 6] ⟨rfl, by decide, rfl, by decide, by decide⟩ [2, 0, 3, 4, 5, 6, 1, 7] (fun u => [(hs, .inr (1, [.ref hc])), (hc, ar dA 264 cnt), (h1, ar dA L1 s), (h2, ar dA L2 u), (h9, ar dA ((n + 2) / 3 + n / 3 + 3) rk), (h10, ar dA ((n + 2) / 3 + n / 3 + 3) o12), (h11, ar dA ((n + 2) / 3) g0), (h12, ar dA ((n + 2) / 3) o0)]) (fun _ => rfl) (by decide) q107 q109 qs5 q10 q110 nam_X1_merge rfl rfl rfl (by first | omega | (dsimp only; omega)) (by first | omega | (dsimp only; omega)) (by first | omega | (dsimp only; omega)) (by first | omega | (dsimp only; omega)) rfl (Nat.le_of_ble_eq_true rfl) dX1_sort_314 (fun u0 hp0 => ?_)
      rw [← hQ]
      exact w_vret F dX1_sort_317 (cnt, u0) hp0 [0, 1, 2, 3] rfl rfl (by first | omega | (dsimp only; omega)) (by first | omega | (dsimp only; omega))
    have J243 : ∀ (cnt rk o12 : Nat → Nat), RK n S rk o12 → (∀ i, rk i < 1000) → WW M D A 16 Q [(hs, .inr (1, [.ref hc])), (hc, ar dA 264 cnt), (h1, ar dA L1 s), (h2, ar dA L2 ord0), (h9, ar dA ((n + 2) / 3 + n / 3 + 3) rk), (h10, ar dA ((n + 2) / 3 + n / 3 + 3) o12), (h11, ar dA ((n + 2) / 3) (fun _ => 0)), (h12, ar dA ((n + 2) / 3) (fun _ => 0))] (4 * n) (20 * n) 243 [(0, .ref hs), (1, .ref h1), (2, .ref h2), (3, .int (nI n)), (4, .int (nI most)), (5, .int (nI ((n + 2) / 3))), (6, .int (nI ((n + 1) / 3))), (7, .int (nI (n / 3))), (8, .int (nI (((n + 2) / 3) + (n / 3)))), (9, .ref h9), (10, .ref h10), (11, .ref h11), (12, .ref h12)] [] := by
      intro cnt rk o12 hRK hrb
      have L249 : ∀ (n_ k j : Nat) (g0 : Nat → Nat), k ≤ (n + 2) / 3 + n / 3 → (n + 2) / 3 + n / 3 < k + n_ → ZI S o12 ((n + 2) / 3) k j g0 → WW M D A 16 Q [(hs, .inr (1, [.ref hc])), (hc, ar dA 264 cnt), (h1, ar dA L1 s), (h2, ar dA L2 ord0), (h9, ar dA ((n + 2) / 3 + n / 3 + 3) rk), (h10, ar dA ((n + 2) / 3 + n / 3 + 3) o12), (h11, ar dA ((n + 2) / 3) g0), (h12, ar dA ((n + 2) / 3) (fun _ => 0))] (4 * n) (20 * n) 249 [(0, .ref hs), (1, .ref h1), (2, .ref h2), (3, .int (nI n)), (4, .int (nI most)), (5, .int (nI ((n + 2) / 3))), (6, .int (nI ((n + 1) / 3))), (7, .int (nI (n / 3))), (8, .int (nI (((n + 2) / 3) + (n / 3)))), (9, .ref h9), (10, .ref h10), (11, .ref h11), (12, .ref h12), (13, .int (nI j)), (15, .int (nI k))] [] := by
        intro n_
        induction n_ with
        | zero => intro k j g0 hk hn hI; exfalso; omega
        | succ n_ ih =>
          intro k j g0 hk hn hI
          have hjb := hI.1
          have hjc := cl_le o12 ((n + 2) / 3) k
          refine w_iload F dX1_sort_249 14 rfl ?_
          refine w_iload F dX1_sort_251 8 rfl ?_
          refine w_icmp_ge F 290 dX1_sort_253 (by decide) (by omega) (by omega) (fun c => ?_) (fun c => ?_)
          · skip
            have e : (n + 2) / 3 + n / 3 = k := by omega
            subst e
            obtain ⟨z1, z2, z3⟩ := ZI_end hRK hI
            refine w_aload_n F dX1_sort_290 0 rfl ?_
            refine w_aload F dX1_sort_291 11 rfl ?_
            refine w_aload F dX1_sort_293 12 rfl ?_
            refine w_aload_n F dX1_sort_295 1 rfl ?_
            refine w_iconst F (nI 0) dX1_sort_296 (by decide) ?_
            refine w_iload F dX1_sort_297 5 rfl ?_
            refine w_iload F dX1_sort_299 4 rfl ?_
            refine w_callVV F (wr := [(h2, ar dA L2 ord0), (h9, ar dA ((n + 2) / 3 + n / 3 + 3) rk), (h10, ar dA ((n + 2) / 3 + n / 3 + 3) o12)]) (q0 := 0) (met_pass l D dA hs hc h11 h12 h1 cnt g0 (fun _ => 0) s ((n + 2) / 3) ((n + 2) / 3) L1 0 ((n + 2) / 3) most hm (by omega) (by omega) hL1 (by omega) (by omega) (by omega) (fun k hk => by have := z2 k hk; omega) (fun k hk => hsm _ (by have := z2 k hk; omega))) [0, 1, 6, 7, 2] [3, 4, 5] ⟨rfl, by decide, rfl, by decide, by decide⟩ [3, 4, 7, 0, 1, 2, 5, 6] (fun u => [(hs, .inr (1, [.ref hc])), (hc, ar dA 264 u.1), (h1, ar dA L1 s), (h2, ar dA L2 ord0), (h9, ar dA ((n + 2) / 3 + n / 3 + 3) rk), (h10, ar dA ((n + 2) / 3 + n / 3 + 3) o12), (h11, ar dA ((n + 2) / 3) g0), (h12, ar dA ((n + 2) / 3) u.2)]) (fun _ => rfl) (by decide) q98 q100 qs3 q10 q101 nam_X1_pass rfl rfl rfl (by first | omega | (dsimp only; omega)) (by first | omega | (dsimp only; omega)) (by first | omega | (dsimp only; omega)) (by first | omega | (dsimp only; omega)) rfl (Nat.le_of_ble_eq_true rfl) dX1_sort_301 (fun u0 hp0 => ?_)
            obtain ⟨cnt1, o0⟩ := u0
            obtain ⟨σ, s1, s2, -⟩ := hp0
            refine w_ws ([(hs, .inr (1, [.ref hc])), (hc, ar dA 264 cnt1), (h1, ar dA L1 s), (h2, ar dA L2 ord0), (h9, ar dA ((n + 2) / 3 + n / 3 + 3) rk), (h10, ar dA ((n + 2) / 3 + n / 3 + 3) o12), (h11, ar dA ((n + 2) / 3) g0), (h12, ar dA ((n + 2) / 3) o0)]) rfl ?_
            refine w_lsub [0, 1, 2, 3, 4, 5, 6, 7, 8, 9, 10, 11, 12] rfl ?_
            exact J304 _ _ _ _ _ hrb (MP_of hp hz hRK z2 z3 (s1.congr (fun k hk => hE _ (by have := z2 k hk; omega))) s2)
          · skip
            have q1 := hRK.1 k c
            refine w_aload F dX1_sort_256 10 rfl ?_
            refine w_iload F dX1_sort_258 14 rfl ?_
            refine w_iald F 5 rfl dX1_sort_260 (by omega) (by omega) ?_
            refine w_iload F dX1_sort_261 5 rfl ?_
            refine w_icmp_lt F 269 dX1_sort_263 (by decide) (by omega) (by omega) (fun c2 => ?_) (fun c2 => ?_)
            · skip
              have q2 := ZI_lt hRK hI c2 c
              refine w_aload F dX1_sort_269 11 rfl ?_
              refine w_iload F dX1_sort_271 13 rfl ?_
              refine w_iconst F (nI 3) dX1_sort_273 (by decide) ?_
              refine w_aload F dX1_sort_274 10 rfl ?_
              refine w_iload F dX1_sort_276 14 rfl ?_
              refine w_iald F 5 rfl dX1_sort_278 (by omega) (by omega) ?_
              refine w_imul F dX1_sort_279 ?_
              refine w_iast F 6 ([(hs, .inr (1, [.ref hc])), (hc, ar dA 264 cnt), (h1, ar dA L1 s), (h2, ar dA L2 ord0), (h9, ar dA ((n + 2) / 3 + n / 3 + 3) rk), (h10, ar dA ((n + 2) / 3 + n / 3 + 3) o12), (h11, ar dA ((n + 2) / 3) (upN g0 j (3 * (o12 k)))), (h12, ar dA ((n + 2) / 3) (fun _ => 0))]) rfl dX1_sort_280 (by omega) (by omega) rfl ?_
              refine w_iinc F (v := (nI (j + 1))) [(0, .ref hs), (1, .ref h1), (2, .ref h2), (3, .int (nI n)), (4, .int (nI most)), (5, .int (nI ((n + 2) / 3))), (6, .int (nI ((n + 1) / 3))), (7, .int (nI (n / 3))), (8, .int (nI (((n + 2) / 3) + (n / 3)))), (9, .ref h9), (10, .ref h10), (11, .ref h11), (12, .ref h12), (13, .int (nI (j + 1))), (15, .int (nI k))] dX1_sort_281 13 rfl (nI_add j 1) (by decide) rfl rfl ?_
              refine w_iinc F (v := (nI (k + 1))) [(0, .ref hs), (1, .ref h1), (2, .ref h2), (3, .int (nI n)), (4, .int (nI most)), (5, .int (nI ((n + 2) / 3))), (6, .int (nI ((n + 1) / 3))), (7, .int (nI (n / 3))), (8, .int (nI (((n + 2) / 3) + (n / 3)))), (9, .ref h9), (10, .ref h10), (11, .ref h11), (12, .ref h12), (13, .int (nI (j + 1))), (15, .int (nI (k + 1)))] dX1_sort_284 14 rfl (nI_add k 1) (by decide) rfl rfl ?_
              refine w_goto F 249 dX1_sort_287 (by decide) ?_
              exact ih (k + 1) (j + 1) _ (by omega) (by omega) (ZI_put hRK hI c2 c)
            · skip
              refine w_goto F 284 dX1_sort_266 (by decide) ?_
              refine w_iinc F (v := (nI (k + 1))) [(0, .ref hs), (1, .ref h1), (2, .ref h2), (3, .int (nI n)), (4, .int (nI most)), (5, .int (nI ((n + 2) / 3))), (6, .int (nI ((n + 1) / 3))), (7, .int (nI (n / 3))), (8, .int (nI (((n + 2) / 3) + (n / 3)))), (9, .ref h9), (10, .ref h10), (11, .ref h11), (12, .ref h12), (13, .int (nI j)), (15, .int (nI (k + 1)))] dX1_sort_284 14 rfl (nI_add k 1) (by decide) rfl rfl ?_
              refine w_goto F 249 dX1_sort_287 (by decide) ?_
              exact ih (k + 1) j _ (by omega) (by omega) (ZI_skip hI c2)
      refine w_iconst F (nI 0) dX1_sort_243 (by decide) ?_
      refine w_istore F [(0, .ref hs), (1, .ref h1), (2, .ref h2), (3, .int (nI n)), (4, .int (nI most)), (5, .int (nI ((n + 2) / 3))), (6, .int (nI ((n + 1) / 3))), (7, .int (nI (n / 3))), (8, .int (nI (((n + 2) / 3) + (n / 3)))), (9, .ref h9), (10, .ref h10), (11, .ref h11), (12, .ref h12), (13, .int (nI 0))] dX1_sort_244 (by decide) rfl rfl ?_
      refine w_iconst F (nI 0) dX1_sort_246 (by decide) ?_
      refine w_istore F [(0, .ref hs), (1, .ref h1), (2, .ref h2), (3, .int (nI n)), (4, .int (nI most)), (5, .int (nI ((n + 2) / 3))), (6, .int (nI ((n + 1) / 3))), (7, .int (nI (n / 3))), (8, .int (nI (((n + 2) / 3) + (n / 3)))), (9, .ref h9), (10, .ref h10), (11, .ref h11), (12, .ref h12), (13, .int (nI 0)), (15, .int (nI 0))] dX1_sort_247 (by decide) rfl rfl ?_
      exact L249 ((n + 2) / 3 + n / 3 + 1) 0 0 _ (by omega) (by omega) ZI_0
    have J108 : ∀ (g1 : Nat → Nat), (∀ x, x < (n + 2) / 3 + n / 3 → g1 x = p3 x) → (∀ x, (n + 2) / 3 + n / 3 ≤ x → g1 x = 0) → WW M D A 16 Q [(hs, .inr (1, [.ref hc])), (hc, ar dA 264 cnt0), (h1, ar dA L1 s), (h2, ar dA L2 ord0), (h9, ar dA ((n + 2) / 3 + n / 3 + 3) g1), (h10, ar dA ((n + 2) / 3 + n / 3 + 3) (fun _ => 0)), (h11, ar dA ((n + 2) / 3) (fun _ => 0)), (h12, ar dA ((n + 2) / 3) (fun _ => 0))] 4 (((n + 2) / 3 + n / 3 + 3) + ((n + 2) / 3 + n / 3 + 3) + ((n + 2) / 3) + ((n + 2) / 3)) 108 [(0, .ref hs), (1, .ref h1), (2, .ref h2), (3, .int (nI n)), (4, .int (nI most)), (5, .int (nI ((n + 2) / 3))), (6, .int (nI ((n + 1) / 3))), (7, .int (nI (n / 3))), (8, .int (nI (((n + 2) / 3) + (n / 3)))), (9, .ref h9), (10, .ref h10), (11, .ref h11), (12, .ref h12)] [] := by
      intro g1 hg hg0
      have hgl : ∀ k, k < (n + 2) / 3 + n / 3 → g1 k < n + 1 := fun k hk => by have := p3_lt hk; rw [hg k hk]; omega
      refine w_aload_n F dX1_sort_108 0 rfl ?_
      refine w_aload F dX1_sort_109 9 rfl ?_
      refine w_aload F dX1_sort_111 10 rfl ?_
      refine w_aload_n F dX1_sort_113 1 rfl ?_
      refine w_iconst F (nI 2) dX1_sort_114 (by decide) ?_
      refine w_iload F dX1_sort_115 8 rfl ?_
      refine w_iload F dX1_sort_117 4 rfl ?_
      refine w_callVV F (wr := [(h2, ar dA L2 ord0), (h11, ar dA ((n + 2) / 3) (fun _ => 0)), (h12, ar dA ((n + 2) / 3) (fun _ => 0))]) (q0 := 0) (met_pass l D dA hs hc h9 h10 h1 cnt0 g1 (fun _ => 0) s ((n + 2) / 3 + n / 3 + 3) ((n + 2) / 3 + n / 3 + 3) L1 2 ((n + 2) / 3 + n / 3) most hm (by omega) (by omega) hL1 (by omega) (by omega) (by omega) (fun k hk => by have := hgl k hk; omega) (fun k hk => hsm _ (by have := hgl k hk; omega))) [0, 1, 4, 5, 2] [3, 6, 7] ⟨rfl, by decide, rfl, by decide, by decide⟩ [3, 4, 7, 0, 5, 6, 1, 2] (fun u => [(hs, .inr (1, [.ref hc])), (hc, ar dA 264 u.1), (h1, ar dA L1 s), (h2, ar dA L2 ord0), (h9, ar dA ((n + 2) / 3 + n / 3 + 3) g1), (h10, ar dA ((n + 2) / 3 + n / 3 + 3) u.2), (h11, ar dA ((n + 2) / 3) (fun _ => 0)), (h12, ar dA ((n + 2) / 3) (fun _ => 0))]) (fun _ => rfl) (by decide) q98 q100 qs3 q10 q101 nam_X1_pass rfl rfl rfl (by first | omega | (dsimp only; omega)) (by first | omega | (dsimp only; omega)) (by first | omega | (dsimp only; omega)) (by first | omega | (dsimp only; omega)) rfl (Nat.le_of_ble_eq_true rfl) dX1_sort_119 (fun u0 hp0 => ?_)
      obtain ⟨cnt1, o1⟩ := u0
      obtain ⟨σ1, a1, a2, -⟩ := hp0
      refine w_ws ([(hs, .inr (1, [.ref hc])), (hc, ar dA 264 cnt1), (h1, ar dA L1 s), (h2, ar dA L2 ord0), (h9, ar dA ((n + 2) / 3 + n / 3 + 3) g1), (h10, ar dA ((n + 2) / 3 + n / 3 + 3) o1), (h11, ar dA ((n + 2) / 3) (fun _ => 0)), (h12, ar dA ((n + 2) / 3) (fun _ => 0))]) rfl ?_
      have a2 : ∀ a, a < (n + 2) / 3 + n / 3 → o1 a = g1 (σ1 a) := a2
      refine w_aload_n F dX1_sort_122 0 rfl ?_
      refine w_aload F dX1_sort_123 10 rfl ?_
      refine w_aload F dX1_sort_125 9 rfl ?_
      refine w_aload_n F dX1_sort_127 1 rfl ?_
      refine w_iconst F (nI 1) dX1_sort_128 (by decide) ?_
      refine w_iload F dX1_sort_129 8 rfl ?_
      refine w_iload F dX1_sort_131 4 rfl ?_
      refine w_callVV F (wr := [(h2, ar dA L2 ord0), (h11, ar dA ((n + 2) / 3) (fun _ => 0)), (h12, ar dA ((n + 2) / 3) (fun _ => 0))]) (q0 := 0) (met_pass l D dA hs hc h10 h9 h1 cnt1 o1 g1 s ((n + 2) / 3 + n / 3 + 3) ((n + 2) / 3 + n / 3 + 3) L1 1 ((n + 2) / 3 + n / 3) most hm (by omega) (by omega) hL1 (by omega) (by omega) (by omega) (fun k hk => by have := hgl _ (a1.1 k hk); rw [a2 k hk]; omega) (fun k hk => hsm _ (by have := hgl _ (a1.1 k hk); rw [a2 k hk]; omega))) [0, 1, 5, 4, 2] [3, 6, 7] ⟨rfl, by decide, rfl, by decide, by decide⟩ [3, 4, 7, 0, 6, 5, 1, 2] (fun u => [(hs, .inr (1, [.ref hc])), (hc, ar dA 264 u.1), (h1, ar dA L1 s), (h2, ar dA L2 ord0), (h9, ar dA ((n + 2) / 3 + n / 3 + 3) u.2), (h10, ar dA ((n + 2) / 3 + n / 3 + 3) o1), (h11, ar dA ((n + 2) / 3) (fun _ => 0)), (h12, ar dA ((n + 2) / 3) (fun _ => 0))]) (fun _ => rfl) (by decide) q98 q100 qs3 q10 q101 nam_X1_pass rfl rfl rfl (by first | omega | (dsimp only; omega)) (by first | omega | (dsimp only; omega)) (by first | omega | (dsimp only; omega)) (by first | omega | (dsimp only; omega)) rfl (Nat.le_of_ble_eq_true rfl) dX1_sort_133 (fun u0 hp0 => ?_)
      obtain ⟨cnt2, g2_⟩ := u0
      obtain ⟨σ2, b1, b2, b3⟩ := hp0
      refine w_ws ([(hs, .inr (1, [.ref hc])), (hc, ar dA 264 cnt2), (h1, ar dA L1 s), (h2, ar dA L2 ord0), (h9, ar dA ((n + 2) / 3 + n / 3 + 3) g2_), (h10, ar dA ((n + 2) / 3 + n / 3 + 3) o1), (h11, ar dA ((n + 2) / 3) (fun _ => 0)), (h12, ar dA ((n + 2) / 3) (fun _ => 0))]) rfl ?_
      have b2 : ∀ a, a < (n + 2) / 3 + n / 3 → g2_ a = o1 (σ2 a) := b2
      have b3 : ∀ a, (n + 2) / 3 + n / 3 ≤ a → g2_ a = g1 a := b3
      refine w_aload_n F dX1_sort_136 0 rfl ?_
      refine w_aload F dX1_sort_137 9 rfl ?_
      refine w_aload F dX1_sort_139 10 rfl ?_
      refine w_aload_n F dX1_sort_141 1 rfl ?_
      refine w_iconst F (nI 0) dX1_sort_142 (by decide) ?_
      refine w_iload F dX1_sort_143 8 rfl ?_
      refine w_iload F dX1_sort_145 4 rfl ?_
      refine w_callVV F (wr := [(h2, ar dA L2 ord0), (h11, ar dA ((n + 2) / 3) (fun _ => 0)), (h12, ar dA ((n + 2) / 3) (fun _ => 0))]) (q0 := 0) (met_pass l D dA hs hc h9 h10 h1 cnt2 g2_ o1 s ((n + 2) / 3 + n / 3 + 3) ((n + 2) / 3 + n / 3 + 3) L1 0 ((n + 2) / 3 + n / 3) most hm (by omega) (by omega) hL1 (by omega) (by omega) (by omega) (fun k hk => by have := hgl _ (a1.1 _ (b1.1 k hk)); rw [b2 k hk, a2 _ (b1.1 k hk)]; omega) (fun k hk => hsm _ (by have := hgl _ (a1.1 _ (b1.1 k hk)); rw [b2 k hk, a2 _ (b1.1 k hk)]; omega))) [0, 1, 4, 5, 2] [3, 6, 7] ⟨rfl, by decide, rfl, by decide, by decide⟩ [3, 4, 7, 0, 5, 6, 1, 2] (fun u => [(hs, .inr (1, [.ref hc])), (hc, ar dA 264 u.1), (h1, ar dA L1 s), (h2, ar dA L2 ord0), (h9, ar dA ((n + 2) / 3 + n / 3 + 3) g2_), (h10, ar dA ((n + 2) / 3 + n / 3 + 3) u.2), (h11, ar dA ((n + 2) / 3) (fun _ => 0)), (h12, ar dA ((n + 2) / 3) (fun _ => 0))]) (fun _ => rfl) (by decide) q98 q100 qs3 q10 q101 nam_X1_pass rfl rfl rfl (by first | omega | (dsimp only; omega)) (by first | omega | (dsimp only; omega)) (by first | omega | (dsimp only; omega)) (by first | omega | (dsimp only; omega)) rfl (Nat.le_of_ble_eq_true rfl) dX1_sort_147 (fun u0 hp0 => ?_)
      obtain ⟨cnt3, o3⟩ := u0
      obtain ⟨σ3, d1, d2, -⟩ := hp0
      refine w_ws ([(hs, .inr (1, [.ref hc])), (hc, ar dA 264 cnt3), (h1, ar dA L1 s), (h2, ar dA L2 ord0), (h9, ar dA ((n + 2) / 3 + n / 3 + 3) g2_), (h10, ar dA ((n + 2) / 3 + n / 3 + 3) o3), (h11, ar dA ((n + 2) / 3) (fun _ => 0)), (h12, ar dA ((n + 2) / 3) (fun _ => 0))]) rfl ?_
      have d2 : ∀ a, a < (n + 2) / 3 + n / 3 → o3 a = g2_ (σ3 a) := d2
      have hgo : ∀ k, k < (n + 2) / 3 + n / 3 → o1 k < n + 1 := fun k hk => by have := hgl _ (a1.1 k hk); rw [a2 k hk]; omega
      have hgg : ∀ k, k < (n + 2) / 3 + n / 3 → g2_ k < n + 1 := fun k hk => by have := hgo _ (b1.1 k hk); rw [b2 k hk]; omega
      obtain ⟨τ, t1, t2, t3, t4⟩ := three_pass (s := S) (a1.congr (fun k hk => hE _ (by have := hgl k hk; omega))) a2 (b1.congr (fun k hk => hE _ (by have := hgo k hk; omega))) b2 (d1.congr (fun k hk => hE _ (by have := hgg k hk; omega))) d2
      have hse : ∀ k, k < (n + 2) / 3 + n / 3 → s (o3 k) = S (o3 k) ∧ s (o3 k + 1) = S (o3 k + 1) ∧ s (o3 k + 2) = S (o3 k + 2) := fun k hk => by have := o3_ok hg t1 t3 hk; exact ⟨hE _ (by omega), hE _ (by omega), hE _ (by omega)⟩
      have hok : ∀ a, a < (n + 2) / 3 + n / 3 → o3 a + 2 < L1 ∧ ix ((n + 2) / 3) (o3 a) < (n + 2) / 3 + n / 3 := fun a ha => by have := o3_ok hg t1 t3 ha; omega
      refine w_aload_n F dX1_sort_150 0 rfl ?_
      refine w_aload_n F dX1_sort_151 1 rfl ?_
      refine w_aload F dX1_sort_152 9 rfl ?_
      refine w_aload F dX1_sort_154 10 rfl ?_
      refine w_iload F dX1_sort_156 5 rfl ?_
      refine w_iload F dX1_sort_158 8 rfl ?_
      refine w_callVI F (wr := [(hc, ar dA 264 cnt3), (h2, ar dA L2 ord0), (h11, ar dA ((n + 2) / 3) (fun _ => 0)), (h12, ar dA ((n + 2) / 3) (fun _ => 0))]) (q0 := 0) (met_named l D dA hs hc h1 h9 h10 s o3 g2_ L1 ((n + 2) / 3 + n / 3 + 3) ((n + 2) / 3 + n / 3 + 3) ((n + 2) / 3) ((n + 2) / 3 + n / 3) hL1 (by omega) (by omega) (by omega) (by omega) hsb (fun k hk => (hok k hk).1) (fun k hk => by have := (hok k hk).2; omega) (fun a b ha hb e => o3_inj hg t1 t2 t3 a b ha hb e)) [0, 2, 4, 5] [1, 3, 6, 7] ⟨rfl, by decide, rfl, by decide, by decide⟩ [4, 0, 5, 1, 6, 7, 2, 3] (fun u => [(hs, .inr (1, [.ref hc])), (hc, ar dA 264 cnt3), (h1, ar dA L1 s), (h2, ar dA L2 ord0), (h9, ar dA ((n + 2) / 3 + n / 3 + 3) u), (h10, ar dA ((n + 2) / 3 + n / 3 + 3) o3), (h11, ar dA ((n + 2) / 3) (fun _ => 0)), (h12, ar dA ((n + 2) / 3) (fun _ => 0))]) (fun _ => rfl) (by decide) q102 q104 qs4 q10 q105 nam_X1_named rfl rfl rfl (by first | omega | (dsimp only; omega)) (by first | omega | (dsimp only; omega)) (by first | omega | (dsimp only; omega)) (by first | omega | (dsimp only; omega)) rfl (Nat.le_of_ble_eq_true rfl) dX1_sort_160 (fun r0 u0 hp0 => ?_)
      obtain ⟨rfl, hNI⟩ := hp0
      refine w_top (y := (nI (nmc S o3 ((n + 2) / 3 + n / 3)))) (by rw [nmc_congr hse _ (Nat.le_refl _)]) ?_
      have hNI := NI_congr hse hNI
      have hNM := NM_of hg t1 t2 t3 t4 hNI (fun x hx => (b3 x hx).trans (hg0 x hx))
      have hnm1 := nmc_le S o3 ((n + 2) / 3 + n / 3)
      have hN1 := NM_1 hNM
      have hNz := hNM.2.2.1
      have hub : ∀ i, u0 i < 1000 := fun i => by rcases Nat.lt_or_ge i ((n + 2) / 3 + n / 3) with q | q; (have := hN1 i q; omega); (rw [hNz i q]; decide)
      refine w_istore F [(0, .ref hs), (1, .ref h1), (2, .ref h2), (3, .int (nI n)), (4, .int (nI most)), (5, .int (nI ((n + 2) / 3))), (6, .int (nI ((n + 1) / 3))), (7, .int (nI (n / 3))), (8, .int (nI (((n + 2) / 3) + (n / 3)))), (9, .ref h9), (10, .ref h10), (11, .ref h11), (12, .ref h12), (14, .int (nI (nmc S o3 ((n + 2) / 3 + n / 3))))] dX1_sort_163 (by decide) rfl rfl ?_
      refine w_iload F dX1_sort_165 13 rfl ?_
      refine w_iload F dX1_sort_167 8 rfl ?_
      refine w_icmp_ge F 215 dX1_sort_169 (by decide) (by omega) (by omega) (fun c => ?_) (fun c => ?_)
      · skip
        have hfull : nmc S o3 ((n + 2) / 3 + n / 3) = (n + 2) / 3 + n / 3 := by omega
        have L218 : ∀ (n_ k : Nat) (o : Nat → Nat), k ≤ (n + 2) / 3 + n / 3 → (n + 2) / 3 + n / 3 < k + n_ → OI u0 k o → WW M D A 16 Q [(hs, .inr (1, [.ref hc])), (hc, ar dA 264 cnt3), (h1, ar dA L1 s), (h2, ar dA L2 ord0), (h9, ar dA ((n + 2) / 3 + n / 3 + 3) u0), (h10, ar dA ((n + 2) / 3 + n / 3 + 3) o), (h11, ar dA ((n + 2) / 3) (fun _ => 0)), (h12, ar dA ((n + 2) / 3) (fun _ => 0))] 4 (((n + 2) / 3 + n / 3 + 3) + ((n + 2) / 3 + n / 3 + 3) + ((n + 2) / 3) + ((n + 2) / 3)) 218 [(0, .ref hs), (1, .ref h1), (2, .ref h2), (3, .int (nI n)), (4, .int (nI most)), (5, .int (nI ((n + 2) / 3))), (6, .int (nI ((n + 1) / 3))), (7, .int (nI (n / 3))), (8, .int (nI (((n + 2) / 3) + (n / 3)))), (9, .ref h9), (10, .ref h10), (11, .ref h11), (12, .ref h12), (14, .int (nI (nmc S o3 ((n + 2) / 3 + n / 3)))), (15, .int (nI k))] [] := by
          intro n_
          induction n_ with
          | zero => intro k o hk hn hI; exfalso; omega
          | succ n_ ih =>
            intro k o hk hn hI
            refine w_iload F dX1_sort_218 14 rfl ?_
            refine w_iload F dX1_sort_220 8 rfl ?_
            refine w_icmp_ge F 243 dX1_sort_222 (by decide) (by omega) (by omega) (fun c2 => ?_) (fun c2 => ?_)
            · skip
              have e : (n + 2) / 3 + n / 3 = k := by omega
              subst e
              refine w_widen (k := 4 * n) (n := 20 * n) (by omega) (by omega) ?_
              refine w_lsub [0, 1, 2, 3, 4, 5, 6, 7, 8, 9, 10, 11, 12] rfl ?_
              exact J243 _ _ _ (RK_flat hp hz hNM hfull hI) (fun i => by rcases Nat.lt_or_ge i ((n + 2) / 3 + n / 3) with q | q; (have := hN1 i q; omega); (rw [hNz i q]; decide))
            · skip
              have q1 := hN1 k c2
              refine w_aload F dX1_sort_225 10 rfl ?_
              refine w_aload F dX1_sort_227 9 rfl ?_
              refine w_iload F dX1_sort_229 14 rfl ?_
              refine w_iald F 4 rfl dX1_sort_231 (by omega) (by omega) ?_
              refine w_iconst F (nI 1) dX1_sort_232 (by decide) ?_
              refine w_isub F dX1_sort_233 (by omega) ?_
              refine w_iload F dX1_sort_234 14 rfl ?_
              refine w_iast F 5 ([(hs, .inr (1, [.ref hc])), (hc, ar dA 264 cnt3), (h1, ar dA L1 s), (h2, ar dA L2 ord0), (h9, ar dA ((n + 2) / 3 + n / 3 + 3) u0), (h10, ar dA ((n + 2) / 3 + n / 3 + 3) (upN o ((u0 k) - 1) k)), (h11, ar dA ((n + 2) / 3) (fun _ => 0)), (h12, ar dA ((n + 2) / 3) (fun _ => 0))]) rfl dX1_sort_236 (by omega) (by omega) rfl ?_
              refine w_iinc F (v := (nI (k + 1))) [(0, .ref hs), (1, .ref h1), (2, .ref h2), (3, .int (nI n)), (4, .int (nI most)), (5, .int (nI ((n + 2) / 3))), (6, .int (nI ((n + 1) / 3))), (7, .int (nI (n / 3))), (8, .int (nI (((n + 2) / 3) + (n / 3)))), (9, .ref h9), (10, .ref h10), (11, .ref h11), (12, .ref h12), (14, .int (nI (nmc S o3 ((n + 2) / 3 + n / 3)))), (15, .int (nI (k + 1)))] dX1_sort_237 14 rfl (nI_add k 1) (by decide) rfl rfl ?_
              refine w_goto F 218 dX1_sort_240 (by decide) ?_
              exact ih (k + 1) _ (by omega) (by omega) (OI_step (NM_inj hNM hfull) hI c2)
        refine w_iconst F (nI 0) dX1_sort_215 (by decide) ?_
        refine w_istore F [(0, .ref hs), (1, .ref h1), (2, .ref h2), (3, .int (nI n)), (4, .int (nI most)), (5, .int (nI ((n + 2) / 3))), (6, .int (nI ((n + 1) / 3))), (7, .int (nI (n / 3))), (8, .int (nI (((n + 2) / 3) + (n / 3)))), (9, .ref h9), (10, .ref h10), (11, .ref h11), (12, .ref h12), (14, .int (nI (nmc S o3 ((n + 2) / 3 + n / 3)))), (15, .int (nI 0))] dX1_sort_216 (by decide) rfl rfl ?_
        exact L218 ((n + 2) / 3 + n / 3 + 1) 0 _ (by omega) (by omega) (fun x hx => absurd hx (Nat.not_lt_zero x))
      · skip
        refine w_aload_n F dX1_sort_172 0 rfl ?_
        refine w_aload F dX1_sort_173 9 rfl ?_
        refine w_aload F dX1_sort_175 10 rfl ?_
        refine w_iload F dX1_sort_177 8 rfl ?_
        refine w_iload F dX1_sort_179 13 rfl ?_
        refine w_callVV F (wr := [(h1, ar dA L1 s), (h2, ar dA L2 ord0), (h11, ar dA ((n + 2) / 3) (fun _ => 0)), (h12, ar dA ((n + 2) / 3) (fun _ => 0))]) (q0 := 0) (IH ((n + 2) / 3 + n / 3) (by omega) hs hc h9 h10 cnt3 u0 o3 ((n + 2) / 3 + n / 3 + 3) ((n + 2) / 3 + n / 3 + 3) (nmc S o3 ((n + 2) / 3 + n / 3)) (by omega) (by omega) (by omega) (by omega) (by omega) (by omega) (by omega) (fun i hi => (hN1 i hi).1) (fun i hi => (hN1 i hi).2) (hNz _ (by omega)) (hNz _ (by omega)) (hNz _ (by omega)) hub) [0, 1, 4, 5] [2, 3, 6, 7] ⟨rfl, by decide, rfl, by decide, by decide⟩ [4, 5, 0, 1, 6, 7, 2, 3] (fun u => [(hs, .inr (1, [.ref hc])), (hc, ar dA 264 u.1), (h1, ar dA L1 s), (h2, ar dA L2 ord0), (h9, ar dA ((n + 2) / 3 + n / 3 + 3) u0), (h10, ar dA ((n + 2) / 3 + n / 3 + 3) u.2), (h11, ar dA ((n + 2) / 3) (fun _ => 0)), (h12, ar dA ((n + 2) / 3) (fun _ => 0))]) (fun _ => rfl) (by decide) q106 q95 q96 q10 q97 nam_X1_sort rfl rfl rfl (by first | omega | (dsimp only; omega)) (by first | omega | (dsimp only; omega)) (by first | omega | (dsimp only; omega)) (by first | omega | (dsimp only; omega)) rfl (Nat.le_of_ble_eq_true rfl) dX1_sort_181 (fun u1 hp1 => ?_)
        obtain ⟨cnt4, o4⟩ := u1
        refine w_ws ([(hs, .inr (1, [.ref hc])), (hc, ar dA 264 cnt4), (h1, ar dA L1 s), (h2, ar dA L2 ord0), (h9, ar dA ((n + 2) / 3 + n / 3 + 3) u0), (h10, ar dA ((n + 2) / 3 + n / 3 + 3) o4), (h11, ar dA ((n + 2) / 3) (fun _ => 0)), (h12, ar dA ((n + 2) / 3) (fun _ => 0))]) rfl ?_
        have hSA : SA ((n + 2) / 3 + n / 3) (zx ((n + 2) / 3 + n / 3) u0) o4 := hp1
        rw [zx_self hNz] at hSA
        refine w_widen (k := 4 * n) (n := 20 * n) (by first | omega | (dsimp only; omega)) (by first | omega | (dsimp only; omega)) ?_
        have L187 : ∀ (n_ k : Nat) (rk : Nat → Nat), k ≤ (n + 2) / 3 + n / 3 → (n + 2) / 3 + n / 3 < k + n_ → RI ((n + 2) / 3 + n / 3) u0 o4 k rk → (∀ i, rk i < 1000) → WW M D A 16 Q [(hs, .inr (1, [.ref hc])), (hc, ar dA 264 cnt4), (h1, ar dA L1 s), (h2, ar dA L2 ord0), (h9, ar dA ((n + 2) / 3 + n / 3 + 3) rk), (h10, ar dA ((n + 2) / 3 + n / 3 + 3) o4), (h11, ar dA ((n + 2) / 3) (fun _ => 0)), (h12, ar dA ((n + 2) / 3) (fun _ => 0))] (4 * n) (20 * n) 187 [(0, .ref hs), (1, .ref h1), (2, .ref h2), (3, .int (nI n)), (4, .int (nI most)), (5, .int (nI ((n + 2) / 3))), (6, .int (nI ((n + 1) / 3))), (7, .int (nI (n / 3))), (8, .int (nI (((n + 2) / 3) + (n / 3)))), (9, .ref h9), (10, .ref h10), (11, .ref h11), (12, .ref h12), (14, .int (nI (nmc S o3 ((n + 2) / 3 + n / 3)))), (15, .int (nI k))] [] := by
          intro n_
          induction n_ with
          | zero => intro k rk hk hn hI hrb; exfalso; omega
          | succ n_ ih =>
            intro k rk hk hn hI hrb
            refine w_iload F dX1_sort_187 14 rfl ?_
            refine w_iload F dX1_sort_189 8 rfl ?_
            refine w_icmp_ge F 212 dX1_sort_191 (by decide) (by omega) (by omega) (fun c2 => ?_) (fun c2 => ?_)
            · skip
              have e : (n + 2) / 3 + n / 3 = k := by omega
              subst e
              refine w_goto F 243 dX1_sort_212 (by decide) ?_
              refine w_lsub [0, 1, 2, 3, 4, 5, 6, 7, 8, 9, 10, 11, 12] rfl ?_
              exact J243 _ _ _ (RK_rec hp hz hNM hSA hI) hrb
            · skip
              have q1 := hSA.1 k c2
              refine w_aload F dX1_sort_194 9 rfl ?_
              refine w_aload F dX1_sort_196 10 rfl ?_
              refine w_iload F dX1_sort_198 14 rfl ?_
              refine w_iald F 5 rfl dX1_sort_200 (by omega) (by omega) ?_
              refine w_iload F dX1_sort_201 14 rfl ?_
              refine w_iconst F (nI 1) dX1_sort_203 (by decide) ?_
              refine w_iadd F dX1_sort_204 ?_
              refine w_iast F 4 ([(hs, .inr (1, [.ref hc])), (hc, ar dA 264 cnt4), (h1, ar dA L1 s), (h2, ar dA L2 ord0), (h9, ar dA ((n + 2) / 3 + n / 3 + 3) (upN rk (o4 k) (k + 1))), (h10, ar dA ((n + 2) / 3 + n / 3 + 3) o4), (h11, ar dA ((n + 2) / 3) (fun _ => 0)), (h12, ar dA ((n + 2) / 3) (fun _ => 0))]) rfl dX1_sort_205 (by omega) (by omega) rfl ?_
              refine w_iinc F (v := (nI (k + 1))) [(0, .ref hs), (1, .ref h1), (2, .ref h2), (3, .int (nI n)), (4, .int (nI most)), (5, .int (nI ((n + 2) / 3))), (6, .int (nI ((n + 1) / 3))), (7, .int (nI (n / 3))), (8, .int (nI (((n + 2) / 3) + (n / 3)))), (9, .ref h9), (10, .ref h10), (11, .ref h11), (12, .ref h12), (14, .int (nI (nmc S o3 ((n + 2) / 3 + n / 3)))), (15, .int (nI (k + 1)))] dX1_sort_206 14 rfl (nI_add k 1) (by decide) rfl rfl ?_
              refine w_goto F 187 dX1_sort_209 (by decide) ?_
              exact ih (k + 1) _ (by omega) (by omega) (RI_step hSA.1 (SA_inj hSA) hI c2) (fun i => by unfold upN; split; omega; exact hrb i)
        refine w_iconst F (nI 0) dX1_sort_184 (by decide) ?_
        refine w_istore F [(0, .ref hs), (1, .ref h1), (2, .ref h2), (3, .int (nI n)), (4, .int (nI most)), (5, .int (nI ((n + 2) / 3))), (6, .int (nI ((n + 1) / 3))), (7, .int (nI (n / 3))), (8, .int (nI (((n + 2) / 3) + (n / 3)))), (9, .ref h9), (10, .ref h10), (11, .ref h11), (12, .ref h12), (14, .int (nI (nmc S o3 ((n + 2) / 3 + n / 3)))), (15, .int (nI 0))] dX1_sort_185 (by decide) rfl rfl ?_
        exact L187 ((n + 2) / 3 + n / 3 + 1) 0 _ (by omega) (by omega) ⟨fun x hx => absurd hx (Nat.not_lt_zero x), fun _ _ => rfl⟩ (fun i => by rcases Nat.lt_or_ge i ((n + 2) / 3 + n / 3) with q | q; (have := hN1 i q; omega); (rw [hNz i q]; decide))
    have L70 : ∀ (n_ i j : Nat) (g : Nat → Nat), i ≤ n + (n + 2) / 3 - (n + 1) / 3 → n + (n + 2) / 3 - (n + 1) / 3 < i + n_ → FI i j g → WW M D A 16 Q [(hs, .inr (1, [.ref hc])), (hc, ar dA 264 cnt0), (h1, ar dA L1 s), (h2, ar dA L2 ord0), (h9, ar dA ((n + 2) / 3 + n / 3 + 3) g), (h10, ar dA ((n + 2) / 3 + n / 3 + 3) (fun _ => 0)), (h11, ar dA ((n + 2) / 3) (fun _ => 0)), (h12, ar dA ((n + 2) / 3) (fun _ => 0))] 4 (((n + 2) / 3 + n / 3 + 3) + ((n + 2) / 3 + n / 3 + 3) + ((n + 2) / 3) + ((n + 2) / 3)) 70 [(0, .ref hs), (1, .ref h1), (2, .ref h2), (3, .int (nI n)), (4, .int (nI most)), (5, .int (nI ((n + 2) / 3))), (6, .int (nI ((n + 1) / 3))), (7, .int (nI (n / 3))), (8, .int (nI (((n + 2) / 3) + (n / 3)))), (9, .ref h9), (10, .ref h10), (11, .ref h11), (12, .ref h12), (13, .int (nI j)), (14, .int (nI i))] [] := by
      intro n_
      induction n_ with
      | zero => intro i j g hk hn hI; exfalso; omega
      | succ n_ ih =>
        intro i j g hk hn hI
        have hj := hI.1
        refine w_iload F dX1_sort_70 14 rfl ?_
        refine w_iload_n F dX1_sort_72 3 rfl ?_
        refine w_iload F dX1_sort_73 5 rfl ?_
        refine w_iadd F dX1_sort_75 ?_
        refine w_iload F dX1_sort_76 6 rfl ?_
        refine w_isub F dX1_sort_78 (by omega) ?_
        refine w_icmp_ge F 108 dX1_sort_79 (by decide) (by omega) (by omega) (fun c => ?_) (fun c => ?_)
        · skip
          have e : n + (n + 2) / 3 - (n + 1) / 3 = i := by omega
          subst e
          obtain ⟨e1, e2⟩ := FI_end hI
          refine w_lsub [0, 1, 2, 3, 4, 5, 6, 7, 8, 9, 10, 11, 12] rfl ?_
          exact J108 _ e1 e2
        · skip
          have q1 := FI_lt hI c
          refine w_iload F dX1_sort_82 14 rfl ?_
          refine w_iconst F (nI 3) dX1_sort_84 (by decide) ?_
          refine w_irem F dX1_sort_85 (by omega) (by omega) (by omega) ?_
          refine w_if_ne F 92 dX1_sort_86 (by decide) (by omega) (fun c2 => ?_) (fun c2 => ?_)
          · skip
            refine w_aload F dX1_sort_92 9 rfl ?_
            refine w_iload F dX1_sort_94 13 rfl ?_
            refine w_iload F dX1_sort_96 14 rfl ?_
            refine w_iast F 4 ([(hs, .inr (1, [.ref hc])), (hc, ar dA 264 cnt0), (h1, ar dA L1 s), (h2, ar dA L2 ord0), (h9, ar dA ((n + 2) / 3 + n / 3 + 3) (upN g j i)), (h10, ar dA ((n + 2) / 3 + n / 3 + 3) (fun _ => 0)), (h11, ar dA ((n + 2) / 3) (fun _ => 0)), (h12, ar dA ((n + 2) / 3) (fun _ => 0))]) rfl dX1_sort_98 (by omega) (by omega) rfl ?_
            refine w_iinc F (v := (nI (j + 1))) [(0, .ref hs), (1, .ref h1), (2, .ref h2), (3, .int (nI n)), (4, .int (nI most)), (5, .int (nI ((n + 2) / 3))), (6, .int (nI ((n + 1) / 3))), (7, .int (nI (n / 3))), (8, .int (nI (((n + 2) / 3) + (n / 3)))), (9, .ref h9), (10, .ref h10), (11, .ref h11), (12, .ref h12), (13, .int (nI (j + 1))), (14, .int (nI i))] dX1_sort_99 13 rfl (nI_add j 1) (by decide) rfl rfl ?_
            refine w_iinc F (v := (nI (i + 1))) [(0, .ref hs), (1, .ref h1), (2, .ref h2), (3, .int (nI n)), (4, .int (nI most)), (5, .int (nI ((n + 2) / 3))), (6, .int (nI ((n + 1) / 3))), (7, .int (nI (n / 3))), (8, .int (nI (((n + 2) / 3) + (n / 3)))), (9, .ref h9), (10, .ref h10), (11, .ref h11), (12, .ref h12), (13, .int (nI (j + 1))), (14, .int (nI (i + 1)))] dX1_sort_102 14 rfl (nI_add i 1) (by decide) rfl rfl ?_
            refine w_goto F 70 dX1_sort_105 (by decide) ?_
            exact ih (i + 1) (j + 1) _ (by omega) (by omega) (FI_put hI c2)
          · skip
            refine w_goto F 102 dX1_sort_89 (by decide) ?_
            refine w_iinc F (v := (nI (i + 1))) [(0, .ref hs), (1, .ref h1), (2, .ref h2), (3, .int (nI n)), (4, .int (nI most)), (5, .int (nI ((n + 2) / 3))), (6, .int (nI ((n + 1) / 3))), (7, .int (nI (n / 3))), (8, .int (nI (((n + 2) / 3) + (n / 3)))), (9, .ref h9), (10, .ref h10), (11, .ref h11), (12, .ref h12), (13, .int (nI j)), (14, .int (nI (i + 1)))] dX1_sort_102 14 rfl (nI_add i 1) (by decide) rfl rfl ?_
            refine w_goto F 70 dX1_sort_105 (by decide) ?_
            exact ih (i + 1) j _ (by omega) (by omega) (FI_skip hI c2)
    refine w_iconst F (nI 0) dX1_sort_64 (by decide) ?_
    refine w_istore F [(0, .ref hs), (1, .ref h1), (2, .ref h2), (3, .int (nI n)), (4, .int (nI most)), (5, .int (nI ((n + 2) / 3))), (6, .int (nI ((n + 1) / 3))), (7, .int (nI (n / 3))), (8, .int (nI (((n + 2) / 3) + (n / 3)))), (9, .ref h9), (10, .ref h10), (11, .ref h11), (12, .ref h12), (13, .int (nI 0))] dX1_sort_65 (by decide) rfl rfl ?_
    refine w_iconst F (nI 0) dX1_sort_67 (by decide) ?_
    refine w_istore F [(0, .ref hs), (1, .ref h1), (2, .ref h2), (3, .int (nI n)), (4, .int (nI most)), (5, .int (nI ((n + 2) / 3))), (6, .int (nI ((n + 1) / 3))), (7, .int (nI (n / 3))), (8, .int (nI (((n + 2) / 3) + (n / 3)))), (9, .ref h9), (10, .ref h10), (11, .ref h11), (12, .ref h12), (13, .int (nI 0)), (14, .int (nI 0))] dX1_sort_68 (by decide) rfl rfl ?_
    exact L70 (n + (n + 2) / 3 - (n + 1) / 3 + 1) 0 0 _ (by omega) (by omega) ⟨rfl, fun x hx => absurd hx (Nat.not_lt_zero x), fun _ _ => rfl⟩
  · skip
    refine w_aload_n F dX1_sort_5 2 rfl ?_
    refine w_iconst F (nI 0) dX1_sort_6 (by decide) ?_
    refine w_iconst F (nI 0) dX1_sort_7 (by decide) ?_
    refine w_iast F 3 ([(hs, .inr (1, [.ref hc])), (hc, ar dA 264 cnt0), (h1, ar dA L1 s), (h2, ar dA L2 (upN ord0 0 0))]) rfl dX1_sort_8 (by omega) (by omega) rfl ?_
    rw [← hQ]
    exact w_vret F dX1_sort_9 (cnt0, upN ord0 0 0) ⟨fun a ha => by show upN ord0 0 0 a < n; rw [show a = 0 by omega, upN_same]; omega, fun a b hab hb => by omega⟩ [0, 1, 2, 3] rfl rfl (Nat.zero_le _) (Nat.zero_le _)
end
section
/-! put, repeat, at, back, clear of the class and of its model -/
def by8 (x : Int32) : Nat := x.toBitVec.toNat % 256
def by31 (x : Int32) : Nat := x.toBitVec.toNat % 2147483648
theorem by8_lt (x : Int32) : by8 x < 256 := Nat.mod_lt _ (by decide)
theorem by31_lt (x : Int32) : by31 x < 2 ^ 31 := Nat.mod_lt _ (by decide)
theorem and8 (x : Int32) : x &&& nI 255 = nI (by8 x) := pk_and x 8 (by decide)
theorem and31 (x : Int32) : x &&& 2147483647 = nI (by31 x) := pk_and x 31 (by decide)
def pT (t : Nat → Nat) (z : Nat) (a b c d : Int32) : Nat → Nat := upN (upN (upN (upN t z (by8 a)) (z + 1) (by8 b)) (z + 2) (by8 c)) (z + 3) (by8 d)
def rT (t : Nat → Nat) (f z : Nat) : Nat → Nat → Nat
  | 0 => t
  | k + 1 => upN (rT t f z k) (z + k) (rT t f z k (f + k))
theorem upN_lt {g : Nat → Nat} {k v m : Nat} (h : ∀ i, g i < m) (hv : v < m) (i : Nat) : upN g k v i < m := by
  unfold upN
  split
  · exact hv
  · exact h i
theorem pT_lt {t : Nat → Nat} (z : Nat) (a b c d : Int32) (h : ∀ i, t i < 256) : ∀ i, pT t z a b c d i < 256 := upN_lt (upN_lt (upN_lt (upN_lt h (by8_lt a)) (by8_lt b)) (by8_lt c)) (by8_lt d)
theorem rT_lt {t : Nat → Nat} (f z : Nat) (h : ∀ i, t i < 256) : ∀ k i, rT t f z k i < 256 := by
  intro k
  induction k with
  | zero => exact h
  | succ k ih => exact upN_lt ih (ih _)
def rpF (a : Int32) (z : Nat) : Nat := by31 a % z
def rpN (b : Int32) (z : Nat) : Nat := min (by31 b % 129) (256 - z)
def putPost (t : Nat → Nat) (z : Nat) (a b c d : Int32) (r : Int32) (u : (Nat → Nat) × Nat) : Prop := (z ≤ 252 ∧ r = nI (z + 4) ∧ u = (pT t z a b c d, z + 4)) ∨ (252 < z ∧ r = -1 ∧ u = (t, z))
def repPost (t : Nat → Nat) (z : Nat) (a b : Int32) (r : Int32) (u : (Nat → Nat) × Nat) : Prop := (z = 0 ∧ r = -1 ∧ u = (t, z)) ∨ (0 < z ∧ r = nI (rpN b z) ∧ u = (rT t (rpF a z) z (rpN b z), z + rpN b z))
def atPost (col : Nat → Nat) (m : Nat) (i : Int32) (r : Int32) : Prop := (m = 0 ∧ r = -1) ∨ (0 < m ∧ r = nI (col (by31 i % m)))
set_option maxHeartbeats 4000000 in
set_option maxRecDepth 100000 in
theorem met_X0_put (l : Launch) (D : va_G) (dA : ClassId) (h ht hcol hk hs hb hr ho hn hl : Nat) (t : Nat → Nat) (z m : Nat) (a b c d : Int32) (hz : z ≤ 256) :
    CTI l D dA yX0_put cX0_put 5 .int ({ frames := 0, cells := 0, slots := 0, locals := 0 } : Room) [.ref h, .int a, .int b, .int c, .int d] [(h, .inr (0, [.ref ht, .int (nI z), .ref hcol, .ref hk, .int (nI m), .ref hs, .ref hb, .ref hr, .ref ho, .ref hn, .ref hl])), (ht, ar dA 256 t)] (S := ((Nat → Nat) × Nat)) (putPost t z a b c d) (fun u => [(h, .inr (0, [.ref ht, .int (nI u.2), .ref hcol, .ref hk, .int (nI m), .ref hs, .ref hb, .ref hr, .ref ho, .ref hn, .ref hl])), (ht, ar dA 256 u.1)]) := by
  refine CTI.intro (by decide) (Nat.le_of_ble_eq_true rfl) ?_
  intro M A F
  have F : FX M l D dA A cX0_put 5 RX0 (some .int) ({ frames := 0, cells := 0, slots := 0, locals := 0 } : Room) := F
  generalize hQ : QI M D dA A _ _ _ = Q
  show WW M D A 5 Q _ 0 0 0 [(0, .ref h), (1, .int a), (2, .int b), (3, .int c), (4, .int d)] []
  refine w_aload_n F dX0_put_0 0 rfl ?_
  refine w_get F 0 in_X0 rfl rfl 1 (by decide) q33 rfl dX0_put_1 ?_
  refine w_sipush F (nI 252) dX0_put_4 (by decide) ?_
  refine w_icmp_le F 12 dX0_put_7 (by decide) (by omega) (by omega) (fun c0 => ?_) (fun c0 => ?_)
  · skip
    refine w_aload_n F dX0_put_12 0 rfl ?_
    refine w_get F 0 in_X0 rfl rfl 0 (by decide) q32 rfl dX0_put_13 ?_
    refine w_aload_n F dX0_put_16 0 rfl ?_
    refine w_get F 0 in_X0 rfl rfl 1 (by decide) q33 rfl dX0_put_17 ?_
    refine w_iload_n F dX0_put_20 1 rfl ?_
    refine w_sipush F (nI 255) dX0_put_21 (by decide) ?_
    refine w_iandX F dX0_put_24 ?_
    refine w_top (y := (nI (by8 a))) (and8 _) ?_
    refine w_iast F 1 ([(h, .inr (0, [.ref ht, .int (nI z), .ref hcol, .ref hk, .int (nI m), .ref hs, .ref hb, .ref hr, .ref ho, .ref hn, .ref hl])), (ht, ar dA 256 (upN t z (by8 a)))]) rfl dX0_put_25 (by omega) (by omega) rfl ?_
    refine w_aload_n F dX0_put_26 0 rfl ?_
    refine w_get F 0 in_X0 rfl rfl 0 (by decide) q32 rfl dX0_put_27 ?_
    refine w_aload_n F dX0_put_30 0 rfl ?_
    refine w_get F 0 in_X0 rfl rfl 1 (by decide) q33 rfl dX0_put_31 ?_
    refine w_iconst F (nI 1) dX0_put_34 (by decide) ?_
    refine w_iadd F dX0_put_35 ?_
    refine w_iload_n F dX0_put_36 2 rfl ?_
    refine w_sipush F (nI 255) dX0_put_37 (by decide) ?_
    refine w_iandX F dX0_put_40 ?_
    refine w_top (y := (nI (by8 b))) (and8 _) ?_
    refine w_iast F 1 ([(h, .inr (0, [.ref ht, .int (nI z), .ref hcol, .ref hk, .int (nI m), .ref hs, .ref hb, .ref hr, .ref ho, .ref hn, .ref hl])), (ht, ar dA 256 (upN (upN t z (by8 a)) (z + 1) (by8 b)))]) rfl dX0_put_41 (by omega) (by omega) rfl ?_
    refine w_aload_n F dX0_put_42 0 rfl ?_
    refine w_get F 0 in_X0 rfl rfl 0 (by decide) q32 rfl dX0_put_43 ?_
    refine w_aload_n F dX0_put_46 0 rfl ?_
    refine w_get F 0 in_X0 rfl rfl 1 (by decide) q33 rfl dX0_put_47 ?_
    refine w_iconst F (nI 2) dX0_put_50 (by decide) ?_
    refine w_iadd F dX0_put_51 ?_
    refine w_iload_n F dX0_put_52 3 rfl ?_
    refine w_sipush F (nI 255) dX0_put_53 (by decide) ?_
    refine w_iandX F dX0_put_56 ?_
    refine w_top (y := (nI (by8 c))) (and8 _) ?_
    refine w_iast F 1 ([(h, .inr (0, [.ref ht, .int (nI z), .ref hcol, .ref hk, .int (nI m), .ref hs, .ref hb, .ref hr, .ref ho, .ref hn, .ref hl])), (ht, ar dA 256 (upN (upN (upN t z (by8 a)) (z + 1) (by8 b)) (z + 2) (by8 c)))]) rfl dX0_put_57 (by omega) (by omega) rfl ?_
    refine w_aload_n F dX0_put_58 0 rfl ?_
    refine w_get F 0 in_X0 rfl rfl 0 (by decide) q32 rfl dX0_put_59 ?_
    refine w_aload_n F dX0_put_62 0 rfl ?_
    refine w_get F 0 in_X0 rfl rfl 1 (by decide) q33 rfl dX0_put_63 ?_
    refine w_iconst F (nI 3) dX0_put_66 (by decide) ?_
    refine w_iadd F dX0_put_67 ?_
    refine w_iload F dX0_put_68 4 rfl ?_
    refine w_sipush F (nI 255) dX0_put_70 (by decide) ?_
    refine w_iandX F dX0_put_73 ?_
    refine w_top (y := (nI (by8 d))) (and8 _) ?_
    refine w_iast F 1 ([(h, .inr (0, [.ref ht, .int (nI z), .ref hcol, .ref hk, .int (nI m), .ref hs, .ref hb, .ref hr, .ref ho, .ref hn, .ref hl])), (ht, ar dA 256 (upN (upN (upN (upN t z (by8 a)) (z + 1) (by8 b)) (z + 2) (by8 c)) (z + 3) (by8 d)))]) rfl dX0_put_74 (by omega) (by omega) rfl ?_
    refine w_aload_n F dX0_put_75 0 rfl ?_
    refine w_dup F dX0_put_76 rfl ?_
    refine w_get F 0 in_X0 rfl rfl 1 (by decide) q33 rfl dX0_put_77 ?_
    refine w_iconst F (nI 4) dX0_put_80 (by decide) ?_
    refine w_iadd F dX0_put_81 ?_
    refine w_put F 0 ([(h, .inr (0, [.ref ht, .int (nI (z + 4)), .ref hcol, .ref hk, .int (nI m), .ref hs, .ref hb, .ref hr, .ref ho, .ref hn, .ref hl])), (ht, ar dA 256 (upN (upN (upN (upN t z (by8 a)) (z + 1) (by8 b)) (z + 2) (by8 c)) (z + 3) (by8 d)))]) in_X0 tyX0 tyX0_ok nmX0 rfl rfl 1 (by decide) q33 rfl (tyX0_ok 1 (by decide)) rfl rfl (Nat.le_of_ble_eq_true rfl) dX0_put_82 rfl ?_
    refine w_aload_n F dX0_put_85 0 rfl ?_
    refine w_get F 0 in_X0 rfl rfl 1 (by decide) q33 rfl dX0_put_86 ?_
    rw [← hQ]
    exact w_iret F dX0_put_89 rfl (pT t z a b c d, z + 4) (Or.inl ⟨by omega, rfl, rfl⟩) [0, 1] rfl rfl (by decide) (by decide)
  · skip
    refine w_iconst F (-1) dX0_put_10 (by decide) ?_
    rw [← hQ]
    exact w_iret F dX0_put_11 rfl (t, z) (Or.inr ⟨by omega, rfl, rfl⟩) [0, 1] rfl rfl (by decide) (by decide)
set_option maxHeartbeats 4000000 in
set_option maxRecDepth 100000 in
theorem met_X0_repeat (l : Launch) (D : va_G) (dA : ClassId) (h ht hcol hk hs hb hr ho hn hl : Nat) (t : Nat → Nat) (z m : Nat) (a b : Int32) (hz : z ≤ 256) :
    CTI l D dA yX0_repeat cX0_repeat 6 .int ({ frames := 1, cells := 0, slots := 0, locals := 21 } : Room) [.ref h, .int a, .int b] [(h, .inr (0, [.ref ht, .int (nI z), .ref hcol, .ref hk, .int (nI m), .ref hs, .ref hb, .ref hr, .ref ho, .ref hn, .ref hl])), (ht, ar dA 256 t)] (S := ((Nat → Nat) × Nat)) (repPost t z a b) (fun u => [(h, .inr (0, [.ref ht, .int (nI u.2), .ref hcol, .ref hk, .int (nI m), .ref hs, .ref hb, .ref hr, .ref ho, .ref hn, .ref hl])), (ht, ar dA 256 u.1)]) := by
  refine CTI.intro (by decide) (Nat.le_of_ble_eq_true rfl) ?_
  intro M A F
  have F : FX M l D dA A cX0_repeat 6 RX0 (some .int) ({ frames := 1, cells := 0, slots := 0, locals := 21 } : Room) := F
  generalize hQ : QI M D dA A _ _ _ = Q
  show WW M D A 6 Q _ 0 0 0 [(0, .ref h), (1, .int a), (2, .int b)] []
  have hN : rpN b z ≤ 256 - z := Nat.min_le_right _ _
  have hN2 : rpN b z ≤ by31 b % 129 := Nat.min_le_left _ _
  have hN3 : by31 b % 129 < 129 := Nat.mod_lt _ (by decide)
  have L1 : ∀ (n k : Nat), 0 < z → k ≤ rpN b z → rpN b z < k + n → WW M D A 6 Q [(h, .inr (0, [.ref ht, .int (nI (z + k)), .ref hcol, .ref hk, .int (nI m), .ref hs, .ref hb, .ref hr, .ref ho, .ref hn, .ref hl])), (ht, ar dA 256 (rT t (rpF a z) z k))] 0 0 43 [(0, .ref h), (1, .int a), (2, .int b), (3, .int (nI (rpF a z))), (4, .int (nI (rpN b z))), (5, .int (nI k))] [] := by
    intro n
    induction n with
    | zero => intro k h0 gk gn; exfalso; omega
    | succ n ih =>
      intro k h0 gk gn
      have hF : rpF a z < z := Nat.mod_lt _ h0
      refine w_iload F dX0_repeat_43 5 rfl ?_
      refine w_iload F dX0_repeat_45 4 rfl ?_
      refine w_icmp_ge F 84 dX0_repeat_47 (by decide) (by omega) (by omega) (fun c => ?_) (fun c => ?_)
      · skip
        have e : rpN b z = k := by omega
        refine w_iload F dX0_repeat_84 4 rfl ?_
        rw [← hQ]
        rw [← e]
        exact w_iret F dX0_repeat_86 rfl (rT t (rpF a z) z (rpN b z), z + rpN b z) (Or.inr ⟨h0, rfl, rfl⟩) [0, 1] rfl rfl (by decide) (by decide)
      · skip
        refine w_aload_n F dX0_repeat_50 0 rfl ?_
        refine w_get F 0 in_X0 rfl rfl 0 (by decide) q32 rfl dX0_repeat_51 ?_
        refine w_aload_n F dX0_repeat_54 0 rfl ?_
        refine w_get F 0 in_X0 rfl rfl 1 (by decide) q33 rfl dX0_repeat_55 ?_
        refine w_aload_n F dX0_repeat_58 0 rfl ?_
        refine w_get F 0 in_X0 rfl rfl 0 (by decide) q32 rfl dX0_repeat_59 ?_
        refine w_iload_n F dX0_repeat_62 3 rfl ?_
        refine w_iload F dX0_repeat_63 5 rfl ?_
        refine w_iadd F dX0_repeat_65 ?_
        refine w_iald F 1 rfl dX0_repeat_66 (by omega) (by omega) ?_
        refine w_iast F 1 ([(h, .inr (0, [.ref ht, .int (nI (z + k)), .ref hcol, .ref hk, .int (nI m), .ref hs, .ref hb, .ref hr, .ref ho, .ref hn, .ref hl])), (ht, ar dA 256 (upN (rT t (rpF a z) z k) (z + k) ((rT t (rpF a z) z k) ((rpF a z) + k))))]) rfl dX0_repeat_67 (by omega) (by omega) rfl ?_
        refine w_aload_n F dX0_repeat_68 0 rfl ?_
        refine w_dup F dX0_repeat_69 rfl ?_
        refine w_get F 0 in_X0 rfl rfl 1 (by decide) q33 rfl dX0_repeat_70 ?_
        refine w_iconst F (nI 1) dX0_repeat_73 (by decide) ?_
        refine w_iadd F dX0_repeat_74 ?_
        refine w_put F 0 ([(h, .inr (0, [.ref ht, .int (nI ((z + k) + 1)), .ref hcol, .ref hk, .int (nI m), .ref hs, .ref hb, .ref hr, .ref ho, .ref hn, .ref hl])), (ht, ar dA 256 (upN (rT t (rpF a z) z k) (z + k) ((rT t (rpF a z) z k) ((rpF a z) + k))))]) in_X0 tyX0 tyX0_ok nmX0 rfl rfl 1 (by decide) q33 rfl (tyX0_ok 1 (by decide)) rfl rfl (Nat.le_of_ble_eq_true rfl) dX0_repeat_75 rfl ?_
        refine w_iinc F (v := (nI (k + 1))) [(0, .ref h), (1, .int a), (2, .int b), (3, .int (nI (rpF a z))), (4, .int (nI (rpN b z))), (5, .int (nI (k + 1)))] dX0_repeat_78 5 rfl (nI_add k 1) (by decide) rfl rfl ?_
        refine w_goto F 43 dX0_repeat_81 (by decide) ?_
        exact ih (k + 1) h0 (by omega) (by omega)
  refine w_aload_n F dX0_repeat_0 0 rfl ?_
  refine w_get F 0 in_X0 rfl rfl 1 (by decide) q33 rfl dX0_repeat_1 ?_
  refine w_if_ne F 9 dX0_repeat_4 (by decide) (by omega) (fun c0 => ?_) (fun c0 => ?_)
  · skip
    have h0 : 0 < z := by omega
    refine w_iload_n F dX0_repeat_9 1 rfl ?_
    refine w_ldc F q74 dX0_repeat_10 ?_
    refine w_iandX F dX0_repeat_12 ?_
    have b31_12 := by31_lt a
    refine w_top (y := (nI (by31 a))) (and31 _) ?_
    refine w_aload_n F dX0_repeat_13 0 rfl ?_
    refine w_get F 0 in_X0 rfl rfl 1 (by decide) q33 rfl dX0_repeat_14 ?_
    refine w_irem F dX0_repeat_17 (by omega) (by omega) (by omega) ?_
    refine w_istore_n F [(0, .ref h), (1, .int a), (2, .int b), (3, .int (nI ((by31 a) % z)))] dX0_repeat_18 (by decide) rfl rfl ?_
    refine w_iload_n F dX0_repeat_19 2 rfl ?_
    refine w_ldc F q74 dX0_repeat_20 ?_
    refine w_iandX F dX0_repeat_22 ?_
    have b31_22 := by31_lt b
    refine w_top (y := (nI (by31 b))) (and31 _) ?_
    refine w_sipush F (nI 129) dX0_repeat_23 (by decide) ?_
    refine w_irem F dX0_repeat_26 (by omega) (by omega) (by omega) ?_
    refine w_sipush F (nI 256) dX0_repeat_27 (by decide) ?_
    refine w_aload_n F dX0_repeat_30 0 rfl ?_
    refine w_get F 0 in_X0 rfl rfl 1 (by decide) q33 rfl dX0_repeat_31 ?_
    refine w_isub F dX0_repeat_34 (by omega) ?_
    refine w_mmin F q75 dX0_repeat_35 (by decide) (Nat.le_of_ble_eq_true rfl) (by decide) (by decide) (by omega) (by omega) ?_
    refine w_istore F [(0, .ref h), (1, .int a), (2, .int b), (3, .int (nI (rpF a z))), (4, .int (nI (rpN b z)))] dX0_repeat_38 (by decide) rfl rfl ?_
    refine w_iconst F (nI 0) dX0_repeat_40 (by decide) ?_
    refine w_istore F [(0, .ref h), (1, .int a), (2, .int b), (3, .int (nI (rpF a z))), (4, .int (nI (rpN b z))), (5, .int (nI 0))] dX0_repeat_41 (by decide) rfl rfl ?_
    exact L1 (rpN b z + 1) 0 h0 (by omega) (by omega)
  · skip
    refine w_iconst F (-1) dX0_repeat_7 (by decide) ?_
    rw [← hQ]
    exact w_iret F dX0_repeat_8 rfl (t, z) (Or.inl ⟨by omega, rfl, rfl⟩) [0, 1] rfl rfl (by decide) (by decide)
set_option maxHeartbeats 4000000 in
set_option maxRecDepth 100000 in
theorem met_X0_at (l : Launch) (D : va_G) (dA : ClassId) (h ht hcol hk hs hb hr ho hn hl : Nat) (col : Nat → Nat) (z m : Nat) (a : Int32) (hm : m ≤ 256) :
    CTI l D dA yX0_at cX0_at 2 .int ({ frames := 0, cells := 0, slots := 0, locals := 0 } : Room) [.ref h, .int a] [(h, .inr (0, [.ref ht, .int (nI z), .ref hcol, .ref hk, .int (nI m), .ref hs, .ref hb, .ref hr, .ref ho, .ref hn, .ref hl])), (hcol, ar dA 256 col)] (S := Unit) (fun r _ => atPost col m a r) (fun _ => [(h, .inr (0, [.ref ht, .int (nI z), .ref hcol, .ref hk, .int (nI m), .ref hs, .ref hb, .ref hr, .ref ho, .ref hn, .ref hl])), (hcol, ar dA 256 col)]) := by
  refine CTI.intro (by decide) (Nat.le_of_ble_eq_true rfl) ?_
  intro M A F
  have F : FX M l D dA A cX0_at 2 RX0 (some .int) ({ frames := 0, cells := 0, slots := 0, locals := 0 } : Room) := F
  generalize hQ : QI M D dA A _ _ _ = Q
  show WW M D A 2 Q _ 0 0 0 [(0, .ref h), (1, .int a)] []
  refine w_aload_n F dX0_at_0 0 rfl ?_
  refine w_get F 0 in_X0 rfl rfl 4 (by decide) q36 rfl dX0_at_1 ?_
  refine w_if_ne F 11 dX0_at_4 (by decide) (by omega) (fun c0 => ?_) (fun c0 => ?_)
  · skip
    have h0 : 0 < m := by omega
    have hix : by31 a % m < m := Nat.mod_lt _ h0
    refine w_aload_n F dX0_at_11 0 rfl ?_
    refine w_get F 0 in_X0 rfl rfl 2 (by decide) q34 rfl dX0_at_12 ?_
    refine w_iload_n F dX0_at_15 1 rfl ?_
    refine w_ldc F q74 dX0_at_16 ?_
    refine w_iandX F dX0_at_18 ?_
    have b31_18 := by31_lt a
    refine w_top (y := (nI (by31 a))) (and31 _) ?_
    refine w_aload_n F dX0_at_19 0 rfl ?_
    refine w_get F 0 in_X0 rfl rfl 4 (by decide) q36 rfl dX0_at_20 ?_
    refine w_irem F dX0_at_23 (by omega) (by omega) (by omega) ?_
    refine w_iald F 1 rfl dX0_at_24 (by omega) (by omega) ?_
    rw [← hQ]
    exact w_iret F dX0_at_25 rfl () (Or.inr ⟨h0, rfl⟩) [0, 1] rfl rfl (by decide) (by decide)
  · skip
    refine w_iconst F (-1) dX0_at_7 (by decide) ?_
    refine w_goto F 25 dX0_at_8 (by decide) ?_
    rw [← hQ]
    exact w_iret F dX0_at_25 rfl () (Or.inl ⟨c0, rfl⟩) [0, 1] rfl rfl (by decide) (by decide)
set_option maxHeartbeats 4000000 in
set_option maxRecDepth 100000 in
theorem met_X0_back (l : Launch) (D : va_G) (dA : ClassId) (h ht hcol hk hs hb hr ho hn hl : Nat) (col : Nat → Nat) (z m : Nat) (a : Int32) (hm : m ≤ 256) :
    CTI l D dA yX0_back cX0_back 2 .int ({ frames := 0, cells := 0, slots := 0, locals := 0 } : Room) [.ref h, .int a] [(h, .inr (0, [.ref ht, .int (nI z), .ref hcol, .ref hk, .int (nI m), .ref hs, .ref hb, .ref hr, .ref ho, .ref hn, .ref hl])), (hk, ar dA 256 col)] (S := Unit) (fun r _ => atPost col m a r) (fun _ => [(h, .inr (0, [.ref ht, .int (nI z), .ref hcol, .ref hk, .int (nI m), .ref hs, .ref hb, .ref hr, .ref ho, .ref hn, .ref hl])), (hk, ar dA 256 col)]) := by
  refine CTI.intro (by decide) (Nat.le_of_ble_eq_true rfl) ?_
  intro M A F
  have F : FX M l D dA A cX0_back 2 RX0 (some .int) ({ frames := 0, cells := 0, slots := 0, locals := 0 } : Room) := F
  generalize hQ : QI M D dA A _ _ _ = Q
  show WW M D A 2 Q _ 0 0 0 [(0, .ref h), (1, .int a)] []
  refine w_aload_n F dX0_back_0 0 rfl ?_
  refine w_get F 0 in_X0 rfl rfl 4 (by decide) q36 rfl dX0_back_1 ?_
  refine w_if_ne F 11 dX0_back_4 (by decide) (by omega) (fun c0 => ?_) (fun c0 => ?_)
  · skip
    have h0 : 0 < m := by omega
    have hix : by31 a % m < m := Nat.mod_lt _ h0
    refine w_aload_n F dX0_back_11 0 rfl ?_
    refine w_get F 0 in_X0 rfl rfl 3 (by decide) q35 rfl dX0_back_12 ?_
    refine w_iload_n F dX0_back_15 1 rfl ?_
    refine w_ldc F q74 dX0_back_16 ?_
    refine w_iandX F dX0_back_18 ?_
    have b31_18 := by31_lt a
    refine w_top (y := (nI (by31 a))) (and31 _) ?_
    refine w_aload_n F dX0_back_19 0 rfl ?_
    refine w_get F 0 in_X0 rfl rfl 4 (by decide) q36 rfl dX0_back_20 ?_
    refine w_irem F dX0_back_23 (by omega) (by omega) (by omega) ?_
    refine w_iald F 1 rfl dX0_back_24 (by omega) (by omega) ?_
    rw [← hQ]
    exact w_iret F dX0_back_25 rfl () (Or.inr ⟨h0, rfl⟩) [0, 1] rfl rfl (by decide) (by decide)
  · skip
    refine w_iconst F (-1) dX0_back_7 (by decide) ?_
    refine w_goto F 25 dX0_back_8 (by decide) ?_
    rw [← hQ]
    exact w_iret F dX0_back_25 rfl () (Or.inl ⟨c0, rfl⟩) [0, 1] rfl rfl (by decide) (by decide)
set_option maxHeartbeats 4000000 in
set_option maxRecDepth 100000 in
theorem met_X0_clear (l : Launch) (D : va_G) (dA : ClassId) (h ht hcol hk hs hb hr ho hn hl : Nat) (z m : Nat) :
    CTV l D dA yX0_clear cX0_clear 1 ({ frames := 0, cells := 0, slots := 0, locals := 0 } : Room) [.ref h] [(h, .inr (0, [.ref ht, .int (nI z), .ref hcol, .ref hk, .int (nI m), .ref hs, .ref hb, .ref hr, .ref ho, .ref hn, .ref hl]))] (S := Unit) (fun _ => True) (fun _ => [(h, .inr (0, [.ref ht, .int (nI 0), .ref hcol, .ref hk, .int (nI m), .ref hs, .ref hb, .ref hr, .ref ho, .ref hn, .ref hl]))]) := by
  refine CTV.intro (by decide) (Nat.le_of_ble_eq_true rfl) ?_
  intro M A F hin
  have F : FX M l D dA A cX0_clear 1 RX0 none ({ frames := 0, cells := 0, slots := 0, locals := 0 } : Room) := F
  generalize hQ : QV M D dA A _ _ _ = Q
  show WW M D A 1 Q _ 0 0 0 [(0, .ref h)] []
  refine w_aload_n F dX0_clear_0 0 rfl ?_
  refine w_iconst F (nI 0) dX0_clear_1 (by decide) ?_
  refine w_put F 0 ([(h, .inr (0, [.ref ht, .int (nI 0), .ref hcol, .ref hk, .int (nI m), .ref hs, .ref hb, .ref hr, .ref ho, .ref hn, .ref hl]))]) in_X0 tyX0 tyX0_ok nmX0 rfl rfl 1 (by decide) q33 rfl (tyX0_ok 1 (by decide)) rfl rfl (Nat.le_of_ble_eq_true rfl) dX0_clear_2 rfl ?_
  rw [← hQ]
  exact w_vret F dX0_clear_5 () trivial [0] rfl rfl (by decide) (by decide)
set_option maxHeartbeats 4000000 in
set_option maxRecDepth 100000 in
theorem met_X2_put (l : Launch) (D : va_G) (dA : ClassId) (h ht hst hcol hk : Nat) (t : Nat → Nat) (z m : Nat) (a b c d : Int32) (hz : z ≤ 256) :
    CTI l D dA yX2_put cX2_put 5 .int ({ frames := 0, cells := 0, slots := 0, locals := 0 } : Room) [.ref h, .int a, .int b, .int c, .int d] [(h, .inr (2, [.ref ht, .ref hst, .ref hcol, .ref hk, .int (nI z), .int (nI m)])), (ht, ar dA 256 t)] (S := ((Nat → Nat) × Nat)) (putPost t z a b c d) (fun u => [(h, .inr (2, [.ref ht, .ref hst, .ref hcol, .ref hk, .int (nI u.2), .int (nI m)])), (ht, ar dA 256 u.1)]) := by
  refine CTI.intro (by decide) (Nat.le_of_ble_eq_true rfl) ?_
  intro M A F
  have F : FX M l D dA A cX2_put 5 RX2 (some .int) ({ frames := 0, cells := 0, slots := 0, locals := 0 } : Room) := F
  generalize hQ : QI M D dA A _ _ _ = Q
  show WW M D A 5 Q _ 0 0 0 [(0, .ref h), (1, .int a), (2, .int b), (3, .int c), (4, .int d)] []
  refine w_aload_n F dX2_put_0 0 rfl ?_
  refine w_get F 0 in_X2 rfl rfl 4 (by decide) q143 rfl dX2_put_1 ?_
  refine w_iconst F (nI 4) dX2_put_4 (by decide) ?_
  refine w_iadd F dX2_put_5 ?_
  refine w_sipush F (nI 256) dX2_put_6 (by decide) ?_
  refine w_icmp_le F 14 dX2_put_9 (by decide) (by omega) (by omega) (fun c0 => ?_) (fun c0 => ?_)
  · skip
    refine w_aload_n F dX2_put_14 0 rfl ?_
    refine w_get F 0 in_X2 rfl rfl 0 (by decide) q139 rfl dX2_put_15 ?_
    refine w_aload_n F dX2_put_18 0 rfl ?_
    refine w_get F 0 in_X2 rfl rfl 4 (by decide) q143 rfl dX2_put_19 ?_
    refine w_iload_n F dX2_put_22 1 rfl ?_
    refine w_sipush F (nI 255) dX2_put_23 (by decide) ?_
    refine w_iandX F dX2_put_26 ?_
    refine w_top (y := (nI (by8 a))) (and8 _) ?_
    refine w_iast F 1 ([(h, .inr (2, [.ref ht, .ref hst, .ref hcol, .ref hk, .int (nI z), .int (nI m)])), (ht, ar dA 256 (upN t z (by8 a)))]) rfl dX2_put_27 (by omega) (by omega) rfl ?_
    refine w_aload_n F dX2_put_28 0 rfl ?_
    refine w_get F 0 in_X2 rfl rfl 0 (by decide) q139 rfl dX2_put_29 ?_
    refine w_aload_n F dX2_put_32 0 rfl ?_
    refine w_get F 0 in_X2 rfl rfl 4 (by decide) q143 rfl dX2_put_33 ?_
    refine w_iconst F (nI 1) dX2_put_36 (by decide) ?_
    refine w_iadd F dX2_put_37 ?_
    refine w_iload_n F dX2_put_38 2 rfl ?_
    refine w_sipush F (nI 255) dX2_put_39 (by decide) ?_
    refine w_iandX F dX2_put_42 ?_
    refine w_top (y := (nI (by8 b))) (and8 _) ?_
    refine w_iast F 1 ([(h, .inr (2, [.ref ht, .ref hst, .ref hcol, .ref hk, .int (nI z), .int (nI m)])), (ht, ar dA 256 (upN (upN t z (by8 a)) (z + 1) (by8 b)))]) rfl dX2_put_43 (by omega) (by omega) rfl ?_
    refine w_aload_n F dX2_put_44 0 rfl ?_
    refine w_get F 0 in_X2 rfl rfl 0 (by decide) q139 rfl dX2_put_45 ?_
    refine w_aload_n F dX2_put_48 0 rfl ?_
    refine w_get F 0 in_X2 rfl rfl 4 (by decide) q143 rfl dX2_put_49 ?_
    refine w_iconst F (nI 2) dX2_put_52 (by decide) ?_
    refine w_iadd F dX2_put_53 ?_
    refine w_iload_n F dX2_put_54 3 rfl ?_
    refine w_sipush F (nI 255) dX2_put_55 (by decide) ?_
    refine w_iandX F dX2_put_58 ?_
    refine w_top (y := (nI (by8 c))) (and8 _) ?_
    refine w_iast F 1 ([(h, .inr (2, [.ref ht, .ref hst, .ref hcol, .ref hk, .int (nI z), .int (nI m)])), (ht, ar dA 256 (upN (upN (upN t z (by8 a)) (z + 1) (by8 b)) (z + 2) (by8 c)))]) rfl dX2_put_59 (by omega) (by omega) rfl ?_
    refine w_aload_n F dX2_put_60 0 rfl ?_
    refine w_get F 0 in_X2 rfl rfl 0 (by decide) q139 rfl dX2_put_61 ?_
    refine w_aload_n F dX2_put_64 0 rfl ?_
    refine w_get F 0 in_X2 rfl rfl 4 (by decide) q143 rfl dX2_put_65 ?_
    refine w_iconst F (nI 3) dX2_put_68 (by decide) ?_
    refine w_iadd F dX2_put_69 ?_
    refine w_iload F dX2_put_70 4 rfl ?_
    refine w_sipush F (nI 255) dX2_put_72 (by decide) ?_
    refine w_iandX F dX2_put_75 ?_
    refine w_top (y := (nI (by8 d))) (and8 _) ?_
    refine w_iast F 1 ([(h, .inr (2, [.ref ht, .ref hst, .ref hcol, .ref hk, .int (nI z), .int (nI m)])), (ht, ar dA 256 (upN (upN (upN (upN t z (by8 a)) (z + 1) (by8 b)) (z + 2) (by8 c)) (z + 3) (by8 d)))]) rfl dX2_put_76 (by omega) (by omega) rfl ?_
    refine w_aload_n F dX2_put_77 0 rfl ?_
    refine w_aload_n F dX2_put_78 0 rfl ?_
    refine w_get F 0 in_X2 rfl rfl 4 (by decide) q143 rfl dX2_put_79 ?_
    refine w_iconst F (nI 4) dX2_put_82 (by decide) ?_
    refine w_iadd F dX2_put_83 ?_
    refine w_put F 0 ([(h, .inr (2, [.ref ht, .ref hst, .ref hcol, .ref hk, .int (nI (z + 4)), .int (nI m)])), (ht, ar dA 256 (upN (upN (upN (upN t z (by8 a)) (z + 1) (by8 b)) (z + 2) (by8 c)) (z + 3) (by8 d)))]) in_X2 tyX2 tyX2_ok nmX2 rfl rfl 4 (by decide) q143 rfl (tyX2_ok 4 (by decide)) rfl rfl (Nat.le_of_ble_eq_true rfl) dX2_put_84 rfl ?_
    refine w_aload_n F dX2_put_87 0 rfl ?_
    refine w_get F 0 in_X2 rfl rfl 4 (by decide) q143 rfl dX2_put_88 ?_
    rw [← hQ]
    exact w_iret F dX2_put_91 rfl (pT t z a b c d, z + 4) (Or.inl ⟨by omega, rfl, rfl⟩) [0, 1] rfl rfl (by decide) (by decide)
  · skip
    refine w_iconst F (-1) dX2_put_12 (by decide) ?_
    rw [← hQ]
    exact w_iret F dX2_put_13 rfl (t, z) (Or.inr ⟨by omega, rfl, rfl⟩) [0, 1] rfl rfl (by decide) (by decide)
set_option maxHeartbeats 4000000 in
set_option maxRecDepth 100000 in
theorem met_X2_repeat (l : Launch) (D : va_G) (dA : ClassId) (h ht hst hcol hk : Nat) (t : Nat → Nat) (z m : Nat) (a b : Int32) (hz : z ≤ 256) :
    CTI l D dA yX2_repeat cX2_repeat 6 .int ({ frames := 1, cells := 0, slots := 0, locals := 21 } : Room) [.ref h, .int a, .int b] [(h, .inr (2, [.ref ht, .ref hst, .ref hcol, .ref hk, .int (nI z), .int (nI m)])), (ht, ar dA 256 t)] (S := ((Nat → Nat) × Nat)) (repPost t z a b) (fun u => [(h, .inr (2, [.ref ht, .ref hst, .ref hcol, .ref hk, .int (nI u.2), .int (nI m)])), (ht, ar dA 256 u.1)]) := by
  refine CTI.intro (by decide) (Nat.le_of_ble_eq_true rfl) ?_
  intro M A F
  have F : FX M l D dA A cX2_repeat 6 RX2 (some .int) ({ frames := 1, cells := 0, slots := 0, locals := 21 } : Room) := F
  generalize hQ : QI M D dA A _ _ _ = Q
  show WW M D A 6 Q _ 0 0 0 [(0, .ref h), (1, .int a), (2, .int b)] []
  have hN : rpN b z ≤ 256 - z := Nat.min_le_right _ _
  have hN2 : rpN b z ≤ by31 b % 129 := Nat.min_le_left _ _
  have hN3 : by31 b % 129 < 129 := Nat.mod_lt _ (by decide)
  have L1 : ∀ (n k : Nat), 0 < z → k ≤ rpN b z → rpN b z < k + n → WW M D A 6 Q [(h, .inr (2, [.ref ht, .ref hst, .ref hcol, .ref hk, .int (nI (z + k)), .int (nI m)])), (ht, ar dA 256 (rT t (rpF a z) z k))] 0 0 55 [(0, .ref h), (1, .int a), (2, .int b), (3, .int (nI (rpF a z))), (4, .int (nI (rpN b z))), (5, .int (nI k))] [] := by
    intro n
    induction n with
    | zero => intro k h0 gk gn; exfalso; omega
    | succ n ih =>
      intro k h0 gk gn
      have hF : rpF a z < z := Nat.mod_lt _ h0
      refine w_iload F dX2_repeat_55 5 rfl ?_
      refine w_iload F dX2_repeat_57 4 rfl ?_
      refine w_icmp_ge F 96 dX2_repeat_59 (by decide) (by omega) (by omega) (fun c => ?_) (fun c => ?_)
      · skip
        have e : rpN b z = k := by omega
        refine w_iload F dX2_repeat_96 4 rfl ?_
        rw [← hQ]
        rw [← e]
        exact w_iret F dX2_repeat_98 rfl (rT t (rpF a z) z (rpN b z), z + rpN b z) (Or.inr ⟨h0, rfl, rfl⟩) [0, 1] rfl rfl (by decide) (by decide)
      · skip
        refine w_aload_n F dX2_repeat_62 0 rfl ?_
        refine w_get F 0 in_X2 rfl rfl 0 (by decide) q139 rfl dX2_repeat_63 ?_
        refine w_aload_n F dX2_repeat_66 0 rfl ?_
        refine w_get F 0 in_X2 rfl rfl 4 (by decide) q143 rfl dX2_repeat_67 ?_
        refine w_aload_n F dX2_repeat_70 0 rfl ?_
        refine w_get F 0 in_X2 rfl rfl 0 (by decide) q139 rfl dX2_repeat_71 ?_
        refine w_iload_n F dX2_repeat_74 3 rfl ?_
        refine w_iload F dX2_repeat_75 5 rfl ?_
        refine w_iadd F dX2_repeat_77 ?_
        refine w_iald F 1 rfl dX2_repeat_78 (by omega) (by omega) ?_
        refine w_iast F 1 ([(h, .inr (2, [.ref ht, .ref hst, .ref hcol, .ref hk, .int (nI (z + k)), .int (nI m)])), (ht, ar dA 256 (upN (rT t (rpF a z) z k) (z + k) ((rT t (rpF a z) z k) ((rpF a z) + k))))]) rfl dX2_repeat_79 (by omega) (by omega) rfl ?_
        refine w_aload_n F dX2_repeat_80 0 rfl ?_
        refine w_aload_n F dX2_repeat_81 0 rfl ?_
        refine w_get F 0 in_X2 rfl rfl 4 (by decide) q143 rfl dX2_repeat_82 ?_
        refine w_iconst F (nI 1) dX2_repeat_85 (by decide) ?_
        refine w_iadd F dX2_repeat_86 ?_
        refine w_put F 0 ([(h, .inr (2, [.ref ht, .ref hst, .ref hcol, .ref hk, .int (nI ((z + k) + 1)), .int (nI m)])), (ht, ar dA 256 (upN (rT t (rpF a z) z k) (z + k) ((rT t (rpF a z) z k) ((rpF a z) + k))))]) in_X2 tyX2 tyX2_ok nmX2 rfl rfl 4 (by decide) q143 rfl (tyX2_ok 4 (by decide)) rfl rfl (Nat.le_of_ble_eq_true rfl) dX2_repeat_87 rfl ?_
        refine w_iinc F (v := (nI (k + 1))) [(0, .ref h), (1, .int a), (2, .int b), (3, .int (nI (rpF a z))), (4, .int (nI (rpN b z))), (5, .int (nI (k + 1)))] dX2_repeat_90 5 rfl (nI_add k 1) (by decide) rfl rfl ?_
        refine w_goto F 55 dX2_repeat_93 (by decide) ?_
        exact ih (k + 1) h0 (by omega) (by omega)
  refine w_aload_n F dX2_repeat_0 0 rfl ?_
  refine w_get F 0 in_X2 rfl rfl 4 (by decide) q143 rfl dX2_repeat_1 ?_
  refine w_if_ne F 9 dX2_repeat_4 (by decide) (by omega) (fun c0 => ?_) (fun c0 => ?_)
  · skip
    have h0 : 0 < z := by omega
    refine w_iload_n F dX2_repeat_9 1 rfl ?_
    refine w_ldc F q166 dX2_repeat_10 ?_
    refine w_iandX F dX2_repeat_12 ?_
    have b31_12 := by31_lt a
    refine w_top (y := (nI (by31 a))) (and31 _) ?_
    refine w_aload_n F dX2_repeat_13 0 rfl ?_
    refine w_get F 0 in_X2 rfl rfl 4 (by decide) q143 rfl dX2_repeat_14 ?_
    refine w_irem F dX2_repeat_17 (by omega) (by omega) (by omega) ?_
    refine w_istore_n F [(0, .ref h), (1, .int a), (2, .int b), (3, .int (nI ((by31 a) % z)))] dX2_repeat_18 (by decide) rfl rfl ?_
    refine w_iload_n F dX2_repeat_19 2 rfl ?_
    refine w_ldc F q166 dX2_repeat_20 ?_
    refine w_iandX F dX2_repeat_22 ?_
    have b31_22 := by31_lt b
    refine w_top (y := (nI (by31 b))) (and31 _) ?_
    refine w_sipush F (nI 129) dX2_repeat_23 (by decide) ?_
    refine w_irem F dX2_repeat_26 (by omega) (by omega) (by omega) ?_
    refine w_istore F [(0, .ref h), (1, .int a), (2, .int b), (3, .int (nI ((by31 a) % z))), (4, .int (nI ((by31 b) % 129)))] dX2_repeat_27 (by decide) rfl rfl ?_
    refine w_aload_n F dX2_repeat_29 0 rfl ?_
    refine w_get F 0 in_X2 rfl rfl 4 (by decide) q143 rfl dX2_repeat_30 ?_
    refine w_iload F dX2_repeat_33 4 rfl ?_
    refine w_iadd F dX2_repeat_35 ?_
    refine w_sipush F (nI 256) dX2_repeat_36 (by decide) ?_
    refine w_icmp_le F 52 dX2_repeat_39 (by decide) (by omega) (by omega) (fun c1 => ?_) (fun c1 => ?_)
    · skip
      have e : rpN b z = by31 b % 129 := Nat.min_eq_left (by omega)
      refine w_iconst F (nI 0) dX2_repeat_52 (by decide) ?_
      refine w_istore F [(0, .ref h), (1, .int a), (2, .int b), (3, .int (nI ((by31 a) % z))), (4, .int (nI ((by31 b) % 129))), (5, .int (nI 0))] dX2_repeat_53 (by decide) rfl rfl ?_
      rw [← e]
      exact L1 (rpN b z + 1) 0 h0 (by omega) (by omega)
    · skip
      have e : rpN b z = 256 - z := Nat.min_eq_right (by omega)
      refine w_sipush F (nI 256) dX2_repeat_42 (by decide) ?_
      refine w_aload_n F dX2_repeat_45 0 rfl ?_
      refine w_get F 0 in_X2 rfl rfl 4 (by decide) q143 rfl dX2_repeat_46 ?_
      refine w_isub F dX2_repeat_49 (by omega) ?_
      refine w_istore F [(0, .ref h), (1, .int a), (2, .int b), (3, .int (nI ((by31 a) % z))), (4, .int (nI (256 - z)))] dX2_repeat_50 (by decide) rfl rfl ?_
      refine w_iconst F (nI 0) dX2_repeat_52 (by decide) ?_
      refine w_istore F [(0, .ref h), (1, .int a), (2, .int b), (3, .int (nI ((by31 a) % z))), (4, .int (nI (256 - z))), (5, .int (nI 0))] dX2_repeat_53 (by decide) rfl rfl ?_
      rw [← e]
      exact L1 (rpN b z + 1) 0 h0 (by omega) (by omega)
  · skip
    refine w_iconst F (-1) dX2_repeat_7 (by decide) ?_
    rw [← hQ]
    exact w_iret F dX2_repeat_8 rfl (t, z) (Or.inl ⟨by omega, rfl, rfl⟩) [0, 1] rfl rfl (by decide) (by decide)
set_option maxHeartbeats 4000000 in
set_option maxRecDepth 100000 in
theorem met_X2_at (l : Launch) (D : va_G) (dA : ClassId) (h ht hst hcol hk : Nat) (col : Nat → Nat) (z m : Nat) (a : Int32) (hm : m ≤ 256) :
    CTI l D dA yX2_at cX2_at 2 .int ({ frames := 0, cells := 0, slots := 0, locals := 0 } : Room) [.ref h, .int a] [(h, .inr (2, [.ref ht, .ref hst, .ref hcol, .ref hk, .int (nI z), .int (nI m)])), (hcol, ar dA 256 col)] (S := Unit) (fun r _ => atPost col m a r) (fun _ => [(h, .inr (2, [.ref ht, .ref hst, .ref hcol, .ref hk, .int (nI z), .int (nI m)])), (hcol, ar dA 256 col)]) := by
  refine CTI.intro (by decide) (Nat.le_of_ble_eq_true rfl) ?_
  intro M A F
  have F : FX M l D dA A cX2_at 2 RX2 (some .int) ({ frames := 0, cells := 0, slots := 0, locals := 0 } : Room) := F
  generalize hQ : QI M D dA A _ _ _ = Q
  show WW M D A 2 Q _ 0 0 0 [(0, .ref h), (1, .int a)] []
  refine w_aload_n F dX2_at_0 0 rfl ?_
  refine w_get F 0 in_X2 rfl rfl 5 (by decide) q144 rfl dX2_at_1 ?_
  refine w_if_ne F 11 dX2_at_4 (by decide) (by omega) (fun c0 => ?_) (fun c0 => ?_)
  · skip
    have h0 : 0 < m := by omega
    have hix : by31 a % m < m := Nat.mod_lt _ h0
    refine w_aload_n F dX2_at_11 0 rfl ?_
    refine w_get F 0 in_X2 rfl rfl 2 (by decide) q141 rfl dX2_at_12 ?_
    refine w_iload_n F dX2_at_15 1 rfl ?_
    refine w_ldc F q166 dX2_at_16 ?_
    refine w_iandX F dX2_at_18 ?_
    have b31_18 := by31_lt a
    refine w_top (y := (nI (by31 a))) (and31 _) ?_
    refine w_aload_n F dX2_at_19 0 rfl ?_
    refine w_get F 0 in_X2 rfl rfl 5 (by decide) q144 rfl dX2_at_20 ?_
    refine w_irem F dX2_at_23 (by omega) (by omega) (by omega) ?_
    refine w_iald F 1 rfl dX2_at_24 (by omega) (by omega) ?_
    rw [← hQ]
    exact w_iret F dX2_at_25 rfl () (Or.inr ⟨h0, rfl⟩) [0, 1] rfl rfl (by decide) (by decide)
  · skip
    refine w_iconst F (-1) dX2_at_7 (by decide) ?_
    refine w_goto F 25 dX2_at_8 (by decide) ?_
    rw [← hQ]
    exact w_iret F dX2_at_25 rfl () (Or.inl ⟨c0, rfl⟩) [0, 1] rfl rfl (by decide) (by decide)
set_option maxHeartbeats 4000000 in
set_option maxRecDepth 100000 in
theorem met_X2_back (l : Launch) (D : va_G) (dA : ClassId) (h ht hst hcol hk : Nat) (col : Nat → Nat) (z m : Nat) (a : Int32) (hm : m ≤ 256) :
    CTI l D dA yX2_back cX2_back 2 .int ({ frames := 0, cells := 0, slots := 0, locals := 0 } : Room) [.ref h, .int a] [(h, .inr (2, [.ref ht, .ref hst, .ref hcol, .ref hk, .int (nI z), .int (nI m)])), (hk, ar dA 256 col)] (S := Unit) (fun r _ => atPost col m a r) (fun _ => [(h, .inr (2, [.ref ht, .ref hst, .ref hcol, .ref hk, .int (nI z), .int (nI m)])), (hk, ar dA 256 col)]) := by
  refine CTI.intro (by decide) (Nat.le_of_ble_eq_true rfl) ?_
  intro M A F
  have F : FX M l D dA A cX2_back 2 RX2 (some .int) ({ frames := 0, cells := 0, slots := 0, locals := 0 } : Room) := F
  generalize hQ : QI M D dA A _ _ _ = Q
  show WW M D A 2 Q _ 0 0 0 [(0, .ref h), (1, .int a)] []
  refine w_aload_n F dX2_back_0 0 rfl ?_
  refine w_get F 0 in_X2 rfl rfl 5 (by decide) q144 rfl dX2_back_1 ?_
  refine w_if_ne F 11 dX2_back_4 (by decide) (by omega) (fun c0 => ?_) (fun c0 => ?_)
  · skip
    have h0 : 0 < m := by omega
    have hix : by31 a % m < m := Nat.mod_lt _ h0
    refine w_aload_n F dX2_back_11 0 rfl ?_
    refine w_get F 0 in_X2 rfl rfl 3 (by decide) q142 rfl dX2_back_12 ?_
    refine w_iload_n F dX2_back_15 1 rfl ?_
    refine w_ldc F q166 dX2_back_16 ?_
    refine w_iandX F dX2_back_18 ?_
    have b31_18 := by31_lt a
    refine w_top (y := (nI (by31 a))) (and31 _) ?_
    refine w_aload_n F dX2_back_19 0 rfl ?_
    refine w_get F 0 in_X2 rfl rfl 5 (by decide) q144 rfl dX2_back_20 ?_
    refine w_irem F dX2_back_23 (by omega) (by omega) (by omega) ?_
    refine w_iald F 1 rfl dX2_back_24 (by omega) (by omega) ?_
    rw [← hQ]
    exact w_iret F dX2_back_25 rfl () (Or.inr ⟨h0, rfl⟩) [0, 1] rfl rfl (by decide) (by decide)
  · skip
    refine w_iconst F (-1) dX2_back_7 (by decide) ?_
    refine w_goto F 25 dX2_back_8 (by decide) ?_
    rw [← hQ]
    exact w_iret F dX2_back_25 rfl () (Or.inl ⟨c0, rfl⟩) [0, 1] rfl rfl (by decide) (by decide)
set_option maxHeartbeats 4000000 in
set_option maxRecDepth 100000 in
theorem met_X2_clear (l : Launch) (D : va_G) (dA : ClassId) (h ht hst hcol hk : Nat) (z m : Nat) :
    CTV l D dA yX2_clear cX2_clear 1 ({ frames := 0, cells := 0, slots := 0, locals := 0 } : Room) [.ref h] [(h, .inr (2, [.ref ht, .ref hst, .ref hcol, .ref hk, .int (nI z), .int (nI m)]))] (S := Unit) (fun _ => True) (fun _ => [(h, .inr (2, [.ref ht, .ref hst, .ref hcol, .ref hk, .int (nI 0), .int (nI m)]))]) := by
  refine CTV.intro (by decide) (Nat.le_of_ble_eq_true rfl) ?_
  intro M A F hin
  have F : FX M l D dA A cX2_clear 1 RX2 none ({ frames := 0, cells := 0, slots := 0, locals := 0 } : Room) := F
  generalize hQ : QV M D dA A _ _ _ = Q
  show WW M D A 1 Q _ 0 0 0 [(0, .ref h)] []
  refine w_aload_n F dX2_clear_0 0 rfl ?_
  refine w_iconst F (nI 0) dX2_clear_1 (by decide) ?_
  refine w_put F 0 ([(h, .inr (2, [.ref ht, .ref hst, .ref hcol, .ref hk, .int (nI 0), .int (nI m)]))]) in_X2 tyX2 tyX2_ok nmX2 rfl rfl 4 (by decide) q143 rfl (tyX2_ok 4 (by decide)) rfl rfl (Nat.le_of_ble_eq_true rfl) dX2_clear_2 rfl ?_
  rw [← hQ]
  exact w_vret F dX2_clear_5 () trivial [0] rfl rfl (by decide) (by decide)
end
section
/-! plain law: borders, the least rotation, names, rotations in order, the way back -/
def wd (T : Nat → Nat) (N i : Nat) : Nat := T (i % N)
theorem wd_per (T : Nat → Nat) (N i : Nat) : wd T N (i + N) = wd T N i := by unfold wd; rw [Nat.add_mod_right]
theorem per_mul {U : Nat → Nat} {n : Nat} (h : ∀ x, U (x + n) = U x) (x c : Nat) : U (x + c * n) = U x := by
  induction c with
  | zero => rw [Nat.zero_mul, Nat.add_zero]
  | succ c ih => rw [Nat.succ_mul, ← Nat.add_assoc, h]; exact ih
theorem per_mod {U : Nat → Nat} {n : Nat} (h : ∀ x, U (x + n) = U x) (x t : Nat) : U (x + t) = U (x % n + t) := by
  have e : x + t = (x % n + t) + (x / n) * n := by
    have := Nat.div_add_mod x n
    rw [Nat.mul_comm] at this
    omega
  rw [e, per_mul h]
/-- a border of the first k: b of them -/
def BD (T : Nat → Nat) (k b : Nat) : Prop := b < k ∧ ∀ i, i < b → T i = T (k - b + i)
def BI (T : Nat → Nat) (k : Nat) (f : Nat → Int32) : Prop := f 0 = -1 ∧ ∀ j, 1 ≤ j → j ≤ k → ∃ b, f j = nI b ∧ BD T j b
theorem BD_0 (T : Nat → Nat) (k : Nat) : BD T (k + 1) 0 := ⟨Nat.succ_pos k, fun i h => absurd h (Nat.not_lt_zero i)⟩
theorem BD_ext {T : Nat → Nat} {k b : Nat} (h : BD T k b) (e : T b = T k) : BD T (k + 1) (b + 1) := by
  refine ⟨by have := h.1; omega, fun i hi => ?_⟩
  have hb := h.1
  by_cases c : i = b
  · rw [c, e, show k + 1 - (b + 1) + b = k by omega]
  · rw [show k + 1 - (b + 1) + i = k - b + i by omega]
    exact h.2 i (by omega)
theorem BD_fall {T : Nat → Nat} {k b : Nat} {f : Nat → Int32} (hI : BI T k f) (h : BD T k b) : f b = -1 ∨ ∃ b', f b = nI b' ∧ b' < b ∧ BD T k b' := by
  rcases Nat.eq_zero_or_pos b with e | e
  · left; rw [e]; exact hI.1
  · right
    have hb := h.1
    obtain ⟨b', h1, h2, h3⟩ := hI.2 b e (by omega)
    refine ⟨b', h1, h2, by omega, fun i hi => ?_⟩
    rw [h3 i hi, h.2 (b - b' + i) (by omega), show k - b + (b - b' + i) = k - b' + i by omega]
theorem BI_step {T : Nat → Nat} {k b : Nat} {f : Nat → Int32} (hI : BI T k f) (h : BD T (k + 1) b) : BI T (k + 1) (upd f (k + 1) (nI b)) := by
  refine ⟨?_, fun j h1 h2 => ?_⟩
  · rw [pk_un (by omega)]; exact hI.1
  · by_cases e : j = k + 1
    · rw [e, pk_us]; exact ⟨b, rfl, h⟩
    · rw [pk_un e]; exact hI.2 j h1 (by omega)
theorem BD_per {T : Nat → Nat} {z b : Nat} (h : BD T z b) : ∀ i, i < z → T i = T (i % (z - b)) := by
  have hb := h.1
  intro i
  induction i using Nat.strongRecOn with
  | _ i ih =>
    intro hi
    rcases Nat.lt_or_ge i (z - b) with q | q
    · rw [Nat.mod_eq_of_lt q]
    · have h1 := h.2 (i - (z - b)) (by omega)
      rw [show z - b + (i - (z - b)) = i by omega] at h1
      rw [← h1, ih (i - (z - b)) (by omega) (by omega), Nat.mod_eq_sub_mod q]
/-- the search for the least rotation -/
def LI (U : Nat → Nat) (n i j k : Nat) : Prop := i ≠ j ∧ (i < n ∨ j < n) ∧ (∀ t, t < k → U (i + t) = U (j + t)) ∧ ∀ p, (p < i ∨ p < j) → p ≠ i → p ≠ j → ∃ q, lexLt U q p
theorem LI_eq {U : Nat → Nat} {n i j k : Nat} (h : LI U n i j k) (e : U (i + k) = U (j + k)) : LI U n i j (k + 1) := by
  refine ⟨h.1, h.2.1, fun t ht => ?_, h.2.2.2⟩
  by_cases c : t = k
  · rw [c]; exact e
  · exact h.2.2.1 t (by omega)
theorem LI_dom {U : Nat → Nat} {i j k : Nat} (h : ∀ t, t < k → U (i + t) = U (j + t)) (hk : U (j + k) < U (i + k)) (p : Nat) (h1 : i ≤ p) (h2 : p ≤ i + k) : ∃ q, lexLt U q p := by
  refine ⟨j + (p - i), k - (p - i), fun t ht => ?_, ?_⟩
  · have := h (p - i + t) (by omega)
    rw [show j + (p - i) + t = j + (p - i + t) by omega, ← this, show i + (p - i + t) = p + t by omega]
  · rw [show j + (p - i) + (k - (p - i)) = j + k by omega, show p + (k - (p - i)) = i + k by omega]
    exact hk
theorem LI_i {U : Nat → Nat} {n i j k j' : Nat} (h : LI U n i j k) (hi : i < n) (hj : j < n) (hk : U (j + k) < U (i + k)) (hj' : (i + k + 1 ≠ j ∧ j' = j) ∨ (i + k + 1 = j ∧ j' = j + 1)) : LI U n (i + k + 1) j' 0 := by
  refine ⟨by omega, by omega, fun t ht => absurd ht (Nat.not_lt_zero t), fun p hp h1 h2 => ?_⟩
  by_cases c : i ≤ p ∧ p ≤ i + k
  · exact LI_dom h.2.2.1 hk p c.1 c.2
  · exact h.2.2.2 p (by omega) (by omega) (by omega)
theorem LI_j {U : Nat → Nat} {n i j k j' : Nat} (h : LI U n i j k) (hi : i < n) (hj : j < n) (hk : U (i + k) < U (j + k)) (hj' : (j + k + 1 ≠ i ∧ j' = j + k + 1) ∨ (j + k + 1 = i ∧ j' = j + k + 1 + 1)) : LI U n i j' 0 := by
  refine ⟨by omega, by omega, fun t ht => absurd ht (Nat.not_lt_zero t), fun p hp h1 h2 => ?_⟩
  by_cases c : j ≤ p ∧ p ≤ j + k
  · exact LI_dom (fun t ht => (h.2.2.1 t ht).symm) hk p c.1 c.2
  · exact h.2.2.2 p (by omega) (by omega) (by omega)
theorem lex_min (U : Nat → Nat) : ∀ c, 0 < c → ∃ m, m < c ∧ ∀ q, q < c → lexLe U m q := by
  intro c
  induction c with
  | zero => intro h; exact absurd h (Nat.lt_irrefl 0)
  | succ c ih =>
    intro _
    rcases Nat.eq_zero_or_pos c with e | e
    · subst e
      refine ⟨0, by omega, fun q hq => ?_⟩
      rw [show q = 0 by omega]
      exact fun z => lex_irr z
    · obtain ⟨m, h1, h2⟩ := ih e
      by_cases g : lexLt U c m
      · refine ⟨c, by omega, fun q hq => ?_⟩
        rcases Nat.lt_or_ge q c with a | a
        · exact lexLe_trans (lexLe_of_lt g) (h2 q a)
        · rw [show q = c by omega]; exact fun z => lex_irr z
      · refine ⟨m, by omega, fun q hq => ?_⟩
        rcases Nat.lt_or_ge q c with a | a
        · exact h2 q a
        · rw [show q = c by omega]; exact g
theorem lexLe_eqL {U : Nat → Nat} {i i' j : Nat} (h : ∀ t, U (i + t) = U (i' + t)) (hl : lexLe U i j) : lexLe U i' j := fun z => hl (lex_eqR (fun t => (h t).symm) z)
theorem lexLe_eqR {U : Nat → Nat} {i j j' : Nat} (h : ∀ t, U (j + t) = U (j' + t)) (hl : lexLe U i j) : lexLe U i j' := fun z => hl (lex_eqL (fun t => (h t).symm) z)
theorem LI_end {U : Nat → Nat} {n i j k : Nat} (hU : ∀ x, U (x + n) = U x) (hn : 0 < n) (h : LI U n i j k) (he : n ≤ i ∨ n ≤ j ∨ n ≤ k) : min i j < n ∧ ∀ q, lexLe U (min i j) q := by
  obtain ⟨h1, h2, h3, h4⟩ := h
  obtain ⟨m, m1, m2⟩ := lex_min U n hn
  have m3 : ∀ q, lexLe U m q := fun q => lexLe_eqR (fun t => (per_mod hU q t).symm) (m2 (q % n) (Nat.mod_lt _ hn))
  have m4 : ¬ ((m < i ∨ m < j) ∧ m ≠ i ∧ m ≠ j) := fun z => by
    obtain ⟨q, hq⟩ := h4 m z.1 z.2.1 z.2.2
    exact m3 q hq
  refine ⟨by omega, ?_⟩
  rcases Nat.lt_or_ge i n with a | a
  · rcases Nat.lt_or_ge j n with b | b
    · have hk : n ≤ k := by omega
      have hall : ∀ t, U (i + t) = U (j + t) := fun t => by
        have e1 := h3 (t % n) (Nat.lt_of_lt_of_le (Nat.mod_lt _ hn) hk)
        have e2 := per_mod hU t i
        have e3 := per_mod hU t j
        rw [Nat.add_comm i t, Nat.add_comm j t, e2, e3, Nat.add_comm (t % n) i, Nat.add_comm (t % n) j]
        exact e1
      have key : ∀ a b, a < b → (∀ t, U (a + t) = U (b + t)) → (∀ p, p < b → p ≠ a → ∃ q, lexLt U q p) → ∀ x, (∀ q, lexLe U x q) → ∀ t, U (x + t) = U (a + t) := by
        intro a b hab hE hD x
        induction x using Nat.strongRecOn with
        | _ x ih =>
          intro hx
          rcases Nat.lt_or_ge x b with q | q
          · by_cases e : x = a
            · intro t; rw [e]
            · obtain ⟨y, hy⟩ := hD x q e
              exact absurd hy (hx y)
          · have e : ∀ t, U (x + t) = U (x - (b - a) + t) := fun t => by
              have := hE (x - b + t)
              rw [show x + t = b + (x - b + t) by omega, ← this, show a + (x - b + t) = x - (b - a) + t by omega]
            have r := ih (x - (b - a)) (by omega) (fun q => lexLe_eqL e (hx q))
            intro t
            rw [e t]; exact r t
      rcases Nat.lt_or_ge i j with c | c
      · rw [Nat.min_eq_left (by omega)]
        have r := key i j c hall (fun p hp hne => h4 p (Or.inr hp) hne (by omega)) m m3
        exact fun q => lexLe_eqL r (m3 q)
      · rw [Nat.min_eq_right (by omega)]
        have r := key j i (by omega) (fun t => (hall t).symm) (fun p hp hne => h4 p (Or.inl hp) (by omega) hne) m m3
        exact fun q => lexLe_eqL r (m3 q)
    · rw [Nat.min_eq_left (by omega), show i = m by omega]; exact m3
  · rw [Nat.min_eq_right (by omega), show j = m by omega]; exact m3
/-- names of the bytes that stand in the text -/
theorem ce_le (κ : Nat → Nat) (v n : Nat) : ce κ v n ≤ n := by
  induction n with
  | zero => exact Nat.le_refl 0
  | succ n ih => rw [ce_s]; split <;> omega
def N2 (T : Nat → Nat) (k : Nat) (w : Nat → Nat) : Prop := ∀ v, v < 256 → (w v = 1 ∧ ∃ i, i < k ∧ T i = v) ∨ (w v = 0 ∧ ∀ i, i < k → T i ≠ v)
theorem N2_step {T w : Nat → Nat} {k : Nat} (h : N2 T k w) : N2 T (k + 1) (upN w (T k) 1) := by
  intro v hv
  by_cases e : v = T k
  · left; exact ⟨by rw [e, upN_same], k, by omega, e.symm⟩
  · rw [upN_ne e]
    rcases h v hv with ⟨h1, i, h2, h3⟩ | ⟨h1, h2⟩
    · left; exact ⟨h1, i, by omega, h3⟩
    · right
      refine ⟨h1, fun i hi => ?_⟩
      by_cases c : i = k
      · rw [c]; exact fun z => e z.symm
      · exact h2 i (by omega)
def N3 (w : Nat → Nat) (k many : Nat) (g : Nat → Nat) : Prop := many = ce w 1 k ∧ (∀ v, v < k → g v = if w v = 1 then ce w 1 (v + 1) else 0) ∧ ∀ v, k ≤ v → v < 256 → g v = w v
theorem N3_skip {T w g : Nat → Nat} {n k many : Nat} (hw : N2 T n w) (h : N3 w k many g) (hk : k < 256) (h0 : g k = 0) : N3 w (k + 1) many g := by
  have hwk : w k = 0 := by rw [← h.2.2 k (Nat.le_refl k) hk]; exact h0
  refine ⟨?_, fun v hv => ?_, fun v h1 h2 => h.2.2 v (by omega) h2⟩
  · rw [ce_s, if_neg (by omega)]; exact h.1
  · by_cases e : v = k
    · rw [e, h0, if_neg (by omega)]
    · exact h.2.1 v (by omega)
theorem N3_put {T w g : Nat → Nat} {n k many : Nat} (hw : N2 T n w) (h : N3 w k many g) (hk : k < 256) (h0 : g k ≠ 0) : N3 w (k + 1) (many + 1) (upN g k (many + 1)) := by
  have hwk : w k = 1 := by
    have := h.2.2 k (Nat.le_refl k) hk
    rcases hw k hk with q | q
    · exact q.1
    · omega
  refine ⟨?_, fun v hv => ?_, fun v h1 h2 => ?_⟩
  · rw [ce_s, if_pos hwk, ← h.1]
  · by_cases e : v = k
    · rw [e, upN_same, if_pos hwk, ce_s, if_pos hwk, ← h.1]
    · rw [upN_ne e]; exact h.2.1 v (by omega)
  · rw [upN_ne (by omega)]; exact h.2.2 v (by omega) h2
/-- what name leaves: the root by names, three zeros behind it -/
def NP (T : Nat → Nat) (n f most : Nat) (rt : Nat → Nat) : Prop := most ≤ 256 ∧ rt n = 0 ∧ rt (n + 1) = 0 ∧ rt (n + 2) = 0 ∧ ∃ nm : Nat → Nat, (∀ k, k < n → rt k = nm (T ((f + k) % n))) ∧ (∀ i, i < n → 1 ≤ nm (T i) ∧ nm (T i) ≤ most) ∧ ∀ i j, i < n → j < n → T i < T j → nm (T i) < nm (T j)
theorem NP_of {T w g rt : Nat → Nat} {n f most : Nat} (hT : ∀ i, T i < 256) (hw : N2 T n w) (h : N3 w 256 most g) (h0 : rt n = 0) (h1 : rt (n + 1) = 0) (h2 : rt (n + 2) = 0) (hr : ∀ k, k < n → rt k = g (T ((f + k) % n))) : NP T n f most rt := by
  have key : ∀ i, i < n → w (T i) = 1 ∧ g (T i) = ce w 1 (T i + 1) := by
    intro i hi
    have hw1 : w (T i) = 1 := by
      rcases hw (T i) (hT i) with q | q
      · exact q.1
      · exact absurd rfl (q.2 i hi)
    exact ⟨hw1, by rw [h.2.1 (T i) (hT i), if_pos hw1]⟩
  refine ⟨by rw [h.1]; exact ce_le w 1 256, h0, h1, h2, g, hr, fun i hi => ?_, fun i j hi hj hij => ?_⟩
  · obtain ⟨k1, k2⟩ := key i hi
    rw [k2]
    have a1 := ce_lt w (show T i < T i + 1 by omega) k1
    have a2 := ce_monoN w 1 (show T i + 1 ≤ 256 from hT i)
    have := h.1
    omega
  · obtain ⟨k1, k2⟩ := key i hi
    obtain ⟨k3, k4⟩ := key j hj
    rw [k2, k4]
    have a1 := ce_monoN w 1 (show T i + 1 ≤ T j from hij)
    have a2 := ce_lt w (show T j < T j + 1 by omega) k3
    omega
/-- the least rotation's suffixes stand as the rotations -/
theorem suf_rot {T S ord : Nat → Nat} {n f most : Nat} (hn : 0 < n) (hf : ∀ q, lexLe (wd T n) f q) (hNP : NP T n f most S) (hz : ∀ i, n ≤ i → S i = 0) (hSA : SA n S ord) {a b : Nat} (hab : a < b) (hb : b < n) : lexLe (wd T n) (ord a + f) (ord b + f) := by
  obtain ⟨-, -, -, -, nm, n1, n2, n3⟩ := hNP
  obtain ⟨d, d1, d2⟩ := hSA.2 a b hab hb
  have ha1 := hSA.1 a (by omega)
  have hb1 := hSA.1 b hb
  generalize ord a = x at *
  generalize ord b = y at *
  have hS : ∀ k, k < n → S k = nm (wd T n (k + f)) := fun k hk => by rw [n1 k hk, Nat.add_comm f k]; rfl
  have hml : ∀ k, k % n < n := fun k => Nat.mod_lt _ hn
  have hpos : ∀ k, k < n → 1 ≤ S k := fun k hk => by rw [hS k hk]; exact (n2 _ (hml _)).1
  have hy : y + d < n := by
    rcases Nat.lt_or_ge (y + d) n with q | q
    · exact q
    · rw [hz (y + d) q] at d2; omega
  have heq : ∀ t, t < d → x + t < n ∧ wd T n (x + f + t) = wd T n (y + f + t) := by
    intro t ht
    have e := d1 t ht
    have hx : x + t < n := by
      rcases Nat.lt_or_ge (x + t) n with q | q
      · exact q
      · rw [hz (x + t) q] at e
        have := hpos (y + t) (by omega)
        omega
    refine ⟨hx, ?_⟩
    rw [hS _ hx, hS _ (show y + t < n by omega)] at e
    rw [show x + f + t = x + t + f by omega, show y + f + t = y + t + f by omega]
    rcases Nat.lt_trichotomy (wd T n (x + t + f)) (wd T n (y + t + f)) with q | q | q
    · have := n3 _ _ (hml (x + t + f)) (hml (y + t + f)) q
      unfold wd at e
      omega
    · exact q
    · have := n3 _ _ (hml (y + t + f)) (hml (x + t + f)) q
      unfold wd at e
      omega
  by_cases hx : x + d < n
  · refine lexLe_of_lt ⟨d, fun t ht => (heq t ht).2, ?_⟩
    rw [hS _ hx, hS _ hy] at d2
    rw [show x + f + d = x + d + f by omega, show y + f + d = y + d + f by omega]
    rcases Nat.lt_trichotomy (wd T n (x + d + f)) (wd T n (y + d + f)) with q | q | q
    · exact q
    · rw [q] at d2; omega
    · have := n3 _ _ (hml (y + d + f)) (hml (x + d + f)) q
      unfold wd at d2
      omega
  · intro hl
    obtain ⟨e, e1, e2⟩ := hl
    have hxd : x + d = n := by
      rcases Nat.eq_zero_or_pos d with q | q
      · omega
      · have := (heq (d - 1) (by omega)).1
        omega
    have hed : d ≤ e := by
      rcases Nat.lt_or_ge e d with q | q
      · have := (heq e q).2
        omega
      · exact q
    refine hf (y + f + d) ⟨e - d, fun t ht => ?_, ?_⟩
    · have := e1 (d + t) (by omega)
      rw [show y + f + d + t = y + f + (d + t) by omega, this, show x + f + (d + t) = f + t + n by omega, wd_per]
    · rw [show y + f + d + (e - d) = y + f + e by omega]
      rw [show x + f + e = f + (e - d) + n by omega, wd_per] at e2
      exact e2
/-- a column of the rotations in order -/
def BW (U : Nat → Nat) (N : Nat) (st col : Nat → Nat) : Prop := (∀ a, a < N → st a < N) ∧ (∀ a b, a < N → b < N → st a = st b → a = b) ∧ (∀ a b, a < b → b < N → lexLe U (st a) (st b)) ∧ ∀ a, a < N → col a = U (st a + N - 1)
theorem BW_unique {U st st' col col' : Nat → Nat} {N : Nat} (hN : 0 < N) (h : BW U N st col) (h' : BW U N st' col') : ∀ a, a < N → col a = col' a := by
  intro a ha
  have e := lexLe_anti (sorted_unique h.1 h.2.1 h.2.2.1 h'.1 h'.2.1 h'.2.2.1 a ha) (sorted_unique h'.1 h'.2.1 h'.2.2.1 h.1 h.2.1 h.2.2.1 a ha) (N - 1)
  rw [h.2.2.2 a ha, h'.2.2.2 a ha, Nat.add_sub_assoc (by omega), Nat.add_sub_assoc (by omega)]
  exact e
/-- the step back: the place among those that are the same -/
theorem BW_back {U st col : Nat → Nat} {N : Nat} (hN : 0 < N) (hU : ∀ x, U (x + N) = U x) (h : BW U N st col) {x : Nat} (hx : x < N) : ∀ t, U (st (pos col N x) + t) = U (st x + N - 1 + t) := by
  obtain ⟨h1, h2, h3, h4⟩ := h
  obtain ⟨σ, s1, s2⟩ := stab_ex col N
  have hq : ∀ y t, U ((st (σ y) + N - 1) % N + t) = U (st (σ y) + N - 1 + t) := fun y t => (per_mod hU _ t).symm
  have hqs : ∀ y t, y < N → U ((st (σ y) + N - 1) % N + 1 + t) = U (st (σ y) + t) := fun y t hy => by
    rw [Nat.add_assoc, hq y (1 + t), show st (σ y) + N - 1 + (1 + t) = st (σ y) + t + N by omega, hU]
  have hq0 : ∀ y, y < N → U ((st (σ y) + N - 1) % N) = col (σ y) := fun y hy => by
    have := hq y 0
    rw [Nat.add_zero, Nat.add_zero] at this
    rw [this, h4 _ (s1.1 y hy)]
  have Q1 : ∀ a, a < N → (st (σ a) + N - 1) % N < N := fun a _ => Nat.mod_lt _ hN
  have Q2 : ∀ a b, a < N → b < N → (st (σ a) + N - 1) % N = (st (σ b) + N - 1) % N → a = b := by
    intro a b ha hb e
    have x1 := h1 _ (s1.1 a ha)
    have x2 := h1 _ (s1.1 b hb)
    have e2 : st (σ a) = st (σ b) := by
      generalize st (σ a) = u at *
      generalize st (σ b) = v at *
      have f1 : ∀ w, w < N → (w + N - 1) % N = if w = 0 then N - 1 else w - 1 := by
        intro w hw
        by_cases c : w = 0
        · rw [if_pos c, c, Nat.zero_add, Nat.mod_eq_of_lt (by omega)]
        · rw [if_neg c, show w + N - 1 = (w - 1) + N by omega, Nat.add_mod_right, Nat.mod_eq_of_lt (by omega)]
      rw [f1 u x1, f1 v x2] at e
      split at e <;> split at e <;> omega
    exact s1.inj a b ha hb (h2 _ _ (s1.1 a ha) (s1.1 b hb) e2)
  have Q3 : ∀ a b, a < b → b < N → lexLe U ((st (σ a) + N - 1) % N) ((st (σ b) + N - 1) % N) := by
    intro a b hab hb hl
    have ha : a < N := by omega
    rw [lex_iff, hq0 a ha, hq0 b hb] at hl
    rcases s1.2 a b hab hb with q | ⟨q1, q2⟩
    · omega
    · rcases hl with z | ⟨-, z⟩
      · omega
      · exact h3 (σ a) (σ b) q2 (s1.1 b hb) (lex_eqL (fun t => hqs b t hb) (lex_eqR (fun t => hqs a t ha) z))
  have hy := pos_lt (κ := col) hx
  have e := lexLe_anti (sorted_unique h1 h2 h3 Q1 Q2 Q3 _ hy) (sorted_unique Q1 Q2 Q3 h1 h2 h3 _ hy)
  have hσ : σ (pos col N x) = x := pos_inj (s1.1 _ hy) hx (s2 _ hy)
  intro t
  rw [e t, hq, hσ]
/-- the rows of a text that is its root again and again -/
theorem BW_root {T ord col : Nat → Nat} {n f τ N : Nat} (hn : 0 < n) (hτ : 0 < τ) (hN : N = n * τ) (hT : ∀ i, i < N → T i = T (i % n)) (ho : ∀ a, a < n → ord a < n) (hi : ∀ a b, a < n → b < n → ord a = ord b → a = b) (hs : ∀ a b, a < b → b < n → lexLe (wd T n) (ord a + f) (ord b + f)) (hc : ∀ r, r < N → col r = T (((ord (r / τ) + f) % n + n - 1) % n)) : BW (wd T N) N (fun r => (ord (r / τ) + f) % n + (r % τ) * n) col := by
  have hUU : ∀ i, wd T N i = wd T n i := fun i => by
    unfold wd
    rw [hT (i % N) (Nat.mod_lt _ (by rw [hN]; exact Nat.mul_pos hn hτ)), hN, Nat.mod_mul_right_mod]
  have hfun : wd T N = wd T n := funext hUU
  have hU : ∀ x, wd T n (x + n) = wd T n x := wd_per T n
  have hdiv : ∀ r, r < N → r / τ < n := fun r hr => Nat.div_lt_of_lt_mul (by rw [Nat.mul_comm, ← hN]; exact hr)
  have hml : ∀ k, k % n < n := fun k => Nat.mod_lt _ hn
  have hst : ∀ r t, wd T n ((ord (r / τ) + f) % n + (r % τ) * n + t) = wd T n (ord (r / τ) + f + t) := fun r t => by
    rw [show (ord (r / τ) + f) % n + (r % τ) * n + t = ((ord (r / τ) + f) % n + t) + (r % τ) * n by omega, per_mul hU, ← per_mod hU]
  rw [hfun]
  refine ⟨fun r hr => ?_, fun a b ha hb e => ?_, fun a b hab hb => ?_, fun r hr => ?_⟩
  · have h1 := hml (ord (r / τ) + f)
    have h2 : (r % τ + 1) * n ≤ τ * n := Nat.mul_le_mul_right n (Nat.mod_lt r hτ)
    rw [Nat.succ_mul] at h2
    rw [hN, Nat.mul_comm n τ]
    show (ord (r / τ) + f) % n + r % τ * n < τ * n
    omega
  · have e : (ord (a / τ) + f) % n + a % τ * n = (ord (b / τ) + f) % n + b % τ * n := e
    have e1 : (ord (a / τ) + f) % n = (ord (b / τ) + f) % n := by
      have := congrArg (· % n) e
      simp only [Nat.add_mul_mod_self_right, Nat.mod_mod] at this
      exact this
    have e2 : a % τ = b % τ := by
      rw [e1] at e
      exact Nat.eq_of_mul_eq_mul_right hn (Nat.add_left_cancel e)
    have o1 := ho _ (hdiv a ha)
    have o2 := ho _ (hdiv b hb)
    have e3 : ord (a / τ) = ord (b / τ) := by
      generalize ord (a / τ) = u at *
      generalize ord (b / τ) = v at *
      have g1 : ∀ w, w < n → (w + f) % n = if w + f % n < n then w + f % n else w + f % n - n := by
        intro w hw
        have hfl := hml f
        rw [← Nat.add_mod_mod]
        by_cases c : w + f % n < n
        · rw [if_pos c, Nat.mod_eq_of_lt c]
        · rw [if_neg c, Nat.mod_eq_sub_mod (by omega), Nat.mod_eq_of_lt (by omega)]
      rw [g1 u o1, g1 v o2] at e1
      have hfl := hml f
      split at e1 <;> split at e1 <;> omega
    have e4 := hi _ _ (hdiv a ha) (hdiv b hb) e3
    have d1 := Nat.div_add_mod a τ
    have d2 := Nat.div_add_mod b τ
    rw [e4, e2] at d1
    omega
  · have hle : a / τ ≤ b / τ := Nat.div_le_div_right (Nat.le_of_lt hab)
    refine lexLe_eqL (i := ord (a / τ) + f) (fun t => (hst a t).symm) (lexLe_eqR (j := ord (b / τ) + f) (fun t => (hst b t).symm) ?_)
    rcases Nat.lt_or_ge (a / τ) (b / τ) with q | q
    · exact hs _ _ q (hdiv b hb)
    · rw [show a / τ = b / τ by omega]; exact fun z => lex_irr z
  · rw [hc r hr]
    show wd T n ((ord (r / τ) + f) % n + n - 1) = wd T n ((ord (r / τ) + f) % n + r % τ * n + N - 1)
    have hp : n ≤ N := by rw [hN]; exact Nat.le_mul_of_pos_right n hτ
    have e : (ord (r / τ) + f) % n + r % τ * n + N - 1 = ((ord (r / τ) + f) % n + n - 1) + (r % τ + (τ - 1)) * n := by
      have : N = n + (τ - 1) * n := by
        have h9 : (τ - 1 + 1) * n = (τ - 1) * n + n := Nat.succ_mul (τ - 1) n
        rw [show τ - 1 + 1 = τ by omega] at h9
        rw [hN, Nat.mul_comm, h9, Nat.add_comm]
      rw [Nat.add_mul, this]
      omega
    rw [e, per_mul hU]
/-- a sort that puts each where it belongs among those before it -/
def IS (U : Nat → Nat) (i : Nat) (g : Nat → Nat) : Prop := (∀ x, x < i → g x < i) ∧ (∀ x y, x < i → y < i → g x = g y → x = y) ∧ ∀ x y, x < y → y < i → lexLe U (g x) (g y)
def IJ (U : Nat → Nat) (i : Nat) (g0 : Nat → Nat) (j : Nat) (g : Nat → Nat) : Prop := j ≤ i ∧ (∀ x, x < j → g x = g0 x) ∧ (∀ x, j < x → x ≤ i → g x = g0 (x - 1)) ∧ ∀ x, j ≤ x → x < i → lexLt U i (g0 x)
theorem IJ_0 {U g0 : Nat → Nat} {i : Nat} : IJ U i g0 i g0 := ⟨Nat.le_refl i, fun _ _ => rfl, fun x h1 h2 => absurd h1 (by omega), fun x h1 h2 => absurd h1 (by omega)⟩
theorem IJ_step {U g0 g : Nat → Nat} {i j : Nat} (h : IJ U i g0 j g) (hj : 0 < j) (hl : lexLt U i (g (j - 1))) : IJ U i g0 (j - 1) (upN g j (g (j - 1))) := by
  obtain ⟨h1, h2, h3, h4⟩ := h
  have e := h2 (j - 1) (by omega)
  refine ⟨by omega, fun x hx => ?_, fun x hx1 hx2 => ?_, fun x hx1 hx2 => ?_⟩
  · rw [upN_ne (by omega)]; exact h2 x (by omega)
  · by_cases c : x = j
    · rw [c, upN_same]; exact e
    · rw [upN_ne c]; exact h3 x (by omega) hx2
  · by_cases c : x = j - 1
    · rw [c, ← e]; exact hl
    · exact h4 x (by omega) hx2
theorem IJ_end {U g0 g : Nat → Nat} {i j : Nat} (hS : IS U i g0) (h : IJ U i g0 j g) (hl : 0 < j → ¬ lexLt U i (g (j - 1))) : IS U (i + 1) (upN g j i) := by
  obtain ⟨h1, h2, h3, h4⟩ := h
  obtain ⟨s1, s2, s3⟩ := hS
  have lo : ∀ x, x < j → upN g j i x = g0 x := fun x hx => by rw [upN_ne (by omega)]; exact h2 x hx
  have hi : ∀ x, j < x → x ≤ i → upN g j i x = g0 (x - 1) := fun x a b => by rw [upN_ne (by omega)]; exact h3 x a b
  have val : ∀ x, x ≤ i → (x < j ∧ upN g j i x = g0 x) ∨ (x = j ∧ upN g j i x = i) ∨ (j < x ∧ upN g j i x = g0 (x - 1)) := by
    intro x hx
    rcases Nat.lt_trichotomy x j with q | q | q
    · left; exact ⟨q, lo x q⟩
    · right; left; exact ⟨q, by rw [q, upN_same]⟩
    · right; right; exact ⟨q, hi x q hx⟩
  refine ⟨fun x hx => ?_, fun x y hx hy e => ?_, fun x y hxy hy => ?_⟩
  · rcases val x (by omega) with ⟨q, v⟩ | ⟨q, v⟩ | ⟨q, v⟩
    · rw [v]; have := s1 x (by omega); omega
    · rw [v]; omega
    · rw [v]; have := s1 (x - 1) (by omega); omega
  · rcases val x (by omega) with ⟨q, v⟩ | ⟨q, v⟩ | ⟨q, v⟩ <;> rcases val y (by omega) with ⟨q', v'⟩ | ⟨q', v'⟩ | ⟨q', v'⟩ <;> rw [v, v'] at e
    · exact s2 x y (by omega) (by omega) e
    · have := s1 x (by omega); omega
    · have := s2 x (y - 1) (by omega) (by omega) e; omega
    · have := s1 y (by omega); omega
    · omega
    · have := s1 (y - 1) (by omega); omega
    · have := s2 (x - 1) y (by omega) (by omega) e; omega
    · have := s1 (x - 1) (by omega); omega
    · have := s2 (x - 1) (y - 1) (by omega) (by omega) e; omega
  · rcases val x (by omega) with ⟨q, v⟩ | ⟨q, v⟩ | ⟨q, v⟩ <;> rcases val y (by omega) with ⟨q', v'⟩ | ⟨q', v'⟩ | ⟨q', v'⟩ <;> rw [v, v']
    · exact s3 x y hxy (by omega)
    · have hj : 0 < j := by omega
      have e := h2 (j - 1) (by omega)
      have hle : lexLe U (g0 (j - 1)) i := by rw [← e]; exact hl hj
      rcases Nat.lt_or_ge x (j - 1) with z | z
      · exact lexLe_trans (s3 x (j - 1) z (by omega)) hle
      · rw [show x = j - 1 by omega]; exact hle
    · rcases Nat.lt_or_ge x (y - 1) with z | z
      · exact s3 x (y - 1) z (by omega)
      · omega
    · omega
    · omega
    · exact lexLe_of_lt (h4 (y - 1) (by omega) (by omega))
    · omega
    · omega
    · exact s3 (x - 1) (y - 1) (by omega) (by omega)
theorem before_end {T : Nat → Nat} {N p q : Nat} (hN : 0 < N) (h : ∀ t, t < N → wd T N (p + t) = wd T N (q + t)) : ¬ lexLt (wd T N) p q := by
  rintro ⟨d, -, hd⟩
  have e := h (d % N) (Nat.mod_lt _ hN)
  have e1 := per_mod (wd_per T N) d p
  have e2 := per_mod (wd_per T N) d q
  rw [Nat.add_comm d p, Nat.add_comm (d % N) p] at e1
  rw [Nat.add_comm d q, Nat.add_comm (d % N) q] at e2
  omega
/-- the links: places of a stable sort, byte by byte -/
def GI (col : Nat → Nat) (N b k sum : Nat) (lk : Nat → Nat) : Prop := sum = cl col b N + ce col b k ∧ ∀ j, j < N → (col j < b ∨ (col j = b ∧ j < k)) → lk j = pos col N j
theorem GI_skip {col lk : Nat → Nat} {N b k sum : Nat} (h : GI col N b k sum lk) (hc : col k ≠ b) : GI col N b (k + 1) sum lk := by
  refine ⟨by rw [ce_s, if_neg hc]; exact h.1, fun j hj hb => h.2 j hj ?_⟩
  rcases hb with q | ⟨q1, q2⟩
  · left; exact q
  · right
    refine ⟨q1, ?_⟩
    by_cases e : j = k
    · rw [e] at q1; exact absurd q1 hc
    · omega
theorem GI_put {col lk : Nat → Nat} {N b k sum : Nat} (h : GI col N b k sum lk) (hc : col k = b) : GI col N b (k + 1) (sum + 1) (upN lk k sum) := by
  refine ⟨by rw [ce_s, if_pos hc, h.1]; omega, fun j hj hb => ?_⟩
  by_cases e : j = k
  · rw [e, upN_same, h.1]
    unfold pos
    rw [hc]
  · rw [upN_ne e]
    exact h.2 j hj (by omega)
theorem GI_next {col lk : Nat → Nat} {N b sum : Nat} (h : GI col N b N sum lk) : GI col N (b + 1) 0 sum lk := by
  refine ⟨?_, fun j hj hb => h.2 j hj (by omega)⟩
  rw [h.1, cl_next]
  rfl
end
section
theorem w_if_ltN {M : MC} {l : Launch} {D : va_G} {dA : ClassId} {A : Nat → Prop} {cc : ByteArray} {nL : Nat} {own : String} {rt : Option FieldType} {rm : Room} {Q : State → Prop} {ws : va_W} {cells slots pc : Nat} {lv : List (Nat × Value)} {st : List Value} (F : FX M l D dA A cc nL own rt rm) {a : Nat} {off : Int} (tgt : Nat) (hdg : decode cc pc = .ok (.ifCond .lt off, 3)) (ht : (pc : Int) + off = (tgt : Int)) (ha : a < 2 ^ 31) (kf : WW M D A nL Q ws cells slots (pc + 3) lv st) : WW M D A nL Q ws cells slots pc lv (.int (nI a) :: st) :=
  w_if_ltX F tgt hdg ht (fun c => absurd c (nI_pos ha)) (fun _ => kf)
def dn : Nat → Int32
  | 0 => -1
  | k + 1 => nI k
theorem dn_step (k : Nat) : nI k + Int32.ofInt (-1) = dn k := by
  cases k with
  | zero => decide
  | succ k => exact pk_m1 k
theorem dn_of {m : Nat} (h : 0 < m) : nI (m - 1) = dn m := by
  cases m with
  | zero => exact absurd h (Nat.lt_irrefl 0)
  | succ m => rfl
theorem sub_eq0 {a b : Nat} (ha : a < 256) (hb : b < 256) : nI a - nI b = 0 ↔ a = b := by
  have h := pk_sub_toInt (a := a) (b := b) (by omega) (by omega)
  constructor
  · intro e
    rw [e] at h
    have h2 : (0 : Int32).toInt = 0 := by decide
    omega
  · intro e
    rw [e, pk_sub (Nat.le_refl b), Nat.sub_self]
    exact nI_0
theorem sub_le0 {a b : Nat} (ha : a < 256) (hb : b < 256) : nI a - nI b ≤ 0 ↔ a ≤ b := by
  have h := pk_sub_toInt (a := a) (b := b) (by omega) (by omega)
  have h2 : (0 : Int32).toInt = 0 := by decide
  rw [Int32.le_iff_toInt_le, h, h2]
  omega
theorem lt256 {x : Nat} (h : x < 256) : x < 2 ^ 31 := by omega
set_option maxHeartbeats 4000000 in
set_option maxRecDepth 100000 in
/-- a length of which the text is made again and again -/
theorem met_period (l : Launch) (D : va_G) (dA : ClassId) (h ht hcol hk hs hb hr ho hn hl : Nat) (t : Nat → Nat) (f0 : Nat → Int32) (z m : Nat) (hz1 : 1 ≤ z) (hz : z ≤ 256) (hT : ∀ i, t i < 256) :
    CTI l D dA yX0_period cX0_period 3 .int ({ frames := 0, cells := 0, slots := 0, locals := 0 } : Room) [.ref h] [(h, .inr (0, [.ref ht, .int (nI z), .ref hcol, .ref hk, .int (nI m), .ref hs, .ref hb, .ref hr, .ref ho, .ref hn, .ref hl])), (ht, ar dA 256 t), (hb, ai dA 257 f0)] (S := (Nat → Int32)) (fun (r : Int32) _ => ∃ p, r = nI p ∧ 1 ≤ p ∧ p ≤ z ∧ z % p = 0 ∧ ∀ i, i < z → t i = t (i % p)) (fun u => [(h, .inr (0, [.ref ht, .int (nI z), .ref hcol, .ref hk, .int (nI m), .ref hs, .ref hb, .ref hr, .ref ho, .ref hn, .ref hl])), (ht, ar dA 256 t), (hb, ai dA 257 u)]) := by
  refine CTI.intro (by decide) (Nat.le_of_ble_eq_true rfl) ?_
  intro M A F
  have F : FX M l D dA A cX0_period 3 RX0 (some .int) ({ frames := 0, cells := 0, slots := 0, locals := 0 } : Room) := F
  generalize hQ : QI M D dA A _ _ _ = Q
  show WW M D A 3 Q _ 0 0 0 [(0, .ref h)] []
  have L1 : ∀ (n k : Nat) (vb : Int32) (f : Nat → Int32), k ≤ z → z < k + n → BI t k f → vb = f k → WW M D A 3 Q [(h, .inr (0, [.ref ht, .int (nI z), .ref hcol, .ref hk, .int (nI m), .ref hs, .ref hb, .ref hr, .ref ho, .ref hn, .ref hl])), (ht, ar dA 256 t), (hb, ai dA 257 f)] 0 0 11 [(0, .ref h), (1, .int vb), (2, .int (nI k))] [] := by
    intro n
    induction n with
    | zero => intro k vb f gk gn hI hv; exfalso; omega
    | succ n ih =>
      intro k vb f gk gn hI hv
      refine w_iload_n F dX0_period_11 2 rfl ?_
      refine w_aload_n F dX0_period_12 0 rfl ?_
      refine w_get F 0 in_X0 rfl rfl 1 (by decide) q33 rfl dX0_period_13 ?_
      refine w_icmp_ge F 66 dX0_period_16 (by decide) (by omega) (by omega) (fun c => ?_) (fun c => ?_)
      · skip
        have e : z = k := by omega
        subst e
        obtain ⟨b, hb1, hBD⟩ := hI.2 z (by omega) (Nat.le_refl z)
        have hb2 := hBD.1
        have hmod : z % (z - b) < z - b := Nat.mod_lt _ (by omega)
        refine w_aload_n F dX0_period_66 0 rfl ?_
        refine w_get F 0 in_X0 rfl rfl 1 (by decide) q33 rfl dX0_period_67 ?_
        refine w_aload_n F dX0_period_70 0 rfl ?_
        refine w_get F 0 in_X0 rfl rfl 6 (by decide) q38 rfl dX0_period_71 ?_
        refine w_aload_n F dX0_period_74 0 rfl ?_
        refine w_get F 0 in_X0 rfl rfl 1 (by decide) q33 rfl dX0_period_75 ?_
        refine w_ialdX F 2 rfl dX0_period_78 (by omega) (by omega) ?_
        refine w_top (y := (nI b)) hb1 ?_
        refine w_isub F dX0_period_79 (by omega) ?_
        refine w_istore_n F [(0, .ref h), (1, .int vb), (2, .int (nI (z - b)))] dX0_period_80 (by decide) rfl rfl ?_
        refine w_aload_n F dX0_period_81 0 rfl ?_
        refine w_get F 0 in_X0 rfl rfl 1 (by decide) q33 rfl dX0_period_82 ?_
        refine w_iload_n F dX0_period_85 2 rfl ?_
        refine w_irem F dX0_period_86 (by omega) (by omega) (by omega) ?_
        refine w_if_ne F 94 dX0_period_87 (by decide) (by omega) (fun c2 => ?_) (fun c2 => ?_)
        · skip
          refine w_aload_n F dX0_period_94 0 rfl ?_
          refine w_get F 0 in_X0 rfl rfl 1 (by decide) q33 rfl dX0_period_95 ?_
          rw [← hQ]
          exact w_iret F dX0_period_98 rfl f ⟨z, rfl, by omega, by omega, Nat.mod_self z, fun i hi => by rw [Nat.mod_eq_of_lt hi]⟩ [0, 1, 2] rfl rfl (by decide) (by decide)
        · skip
          refine w_iload_n F dX0_period_90 2 rfl ?_
          refine w_goto F 98 dX0_period_91 (by decide) ?_
          rw [← hQ]
          exact w_iret F dX0_period_98 rfl f ⟨z - b, rfl, by omega, by omega, c2, BD_per hBD⟩ [0, 1, 2] rfl rfl (by decide) (by decide)
      · skip
        have J51 : ∀ b, BD t (k + 1) b → WW M D A 3 Q [(h, .inr (0, [.ref ht, .int (nI z), .ref hcol, .ref hk, .int (nI m), .ref hs, .ref hb, .ref hr, .ref ho, .ref hn, .ref hl])), (ht, ar dA 256 t), (hb, ai dA 257 f)] 0 0 51 [(0, .ref h), (1, .int (nI b)), (2, .int (nI k))] [] := by
          intro b hBD
          refine w_aload_n F dX0_period_51 0 rfl ?_
          refine w_get F 0 in_X0 rfl rfl 6 (by decide) q38 rfl dX0_period_52 ?_
          refine w_iload_n F dX0_period_55 2 rfl ?_
          refine w_iconst F (nI 1) dX0_period_56 (by decide) ?_
          refine w_iadd F dX0_period_57 ?_
          refine w_iload_n F dX0_period_58 1 rfl ?_
          refine w_iastX F 2 ([(h, .inr (0, [.ref ht, .int (nI z), .ref hcol, .ref hk, .int (nI m), .ref hs, .ref hb, .ref hr, .ref ho, .ref hn, .ref hl])), (ht, ar dA 256 t), (hb, ai dA 257 (upd f (k + 1) (nI b)))]) rfl dX0_period_59 (by omega) (by omega) rfl ?_
          refine w_iinc F (v := (nI (k + 1))) [(0, .ref h), (1, .int (nI b)), (2, .int (nI (k + 1)))] dX0_period_60 2 rfl (nI_add k 1) (by decide) rfl rfl ?_
          refine w_goto F 11 dX0_period_63 (by decide) ?_
          exact ih (k + 1) _ _ (by omega) (by omega) (BI_step hI hBD) (by rw [pk_us])
        have J19m : WW M D A 3 Q [(h, .inr (0, [.ref ht, .int (nI z), .ref hcol, .ref hk, .int (nI m), .ref hs, .ref hb, .ref hr, .ref ho, .ref hn, .ref hl])), (ht, ar dA 256 t), (hb, ai dA 257 f)] 0 0 19 [(0, .ref h), (1, .int (-1)), (2, .int (nI k))] [] := by
          refine w_iload_n F dX0_period_19 1 rfl ?_
          refine w_if_ltX F 48 dX0_period_20 (by decide) (fun c2 => ?_) (fun c2 => ?_)
          · skip
            refine w_iinc F (v := (nI 0)) [(0, .ref h), (1, .int (nI 0)), (2, .int (nI k))] dX0_period_48 1 rfl (by decide) (by decide) rfl rfl ?_
            exact J51 0 (BD_0 t k)
          · skip
            exact absurd (by decide) c2
        have In : ∀ (n2 : Nat) (v : Int32), (v = -1 ∨ ∃ b, v = nI b ∧ b < n2 ∧ BD t k b) → WW M D A 3 Q [(h, .inr (0, [.ref ht, .int (nI z), .ref hcol, .ref hk, .int (nI m), .ref hs, .ref hb, .ref hr, .ref ho, .ref hn, .ref hl])), (ht, ar dA 256 t), (hb, ai dA 257 f)] 0 0 19 [(0, .ref h), (1, .int v), (2, .int (nI k))] [] := by
          intro n2
          induction n2 with
          | zero =>
            intro v hv
            rcases hv with rfl | ⟨b, rfl, hb1, hBD⟩
            · exact J19m
            · omega
          | succ n2 ih2 =>
            intro v hv
            rcases hv with rfl | ⟨b, rfl, hb1, hBD⟩
            · exact J19m
            · skip
              have hb2 := hBD.1
              refine w_iload_n F dX0_period_19 1 rfl ?_
              refine w_if_ltN F 48 dX0_period_20 (by decide) (by omega) ?_
              refine w_aload_n F dX0_period_23 0 rfl ?_
              refine w_get F 0 in_X0 rfl rfl 0 (by decide) q32 rfl dX0_period_24 ?_
              refine w_iload_n F dX0_period_27 1 rfl ?_
              refine w_iald F 1 rfl dX0_period_28 (by omega) (by omega) ?_
              refine w_aload_n F dX0_period_29 0 rfl ?_
              refine w_get F 0 in_X0 rfl rfl 0 (by decide) q32 rfl dX0_period_30 ?_
              refine w_iload_n F dX0_period_33 2 rfl ?_
              refine w_iald F 1 rfl dX0_period_34 (by omega) (by omega) ?_
              refine w_icmp_eq F 48 dX0_period_35 (by decide) (lt256 (hT _)) (lt256 (hT _)) (fun c2 => ?_) (fun c2 => ?_)
              · skip
                refine w_iinc F (v := (nI (b + 1))) [(0, .ref h), (1, .int (nI (b + 1))), (2, .int (nI k))] dX0_period_48 1 rfl (nI_add b 1) (by decide) rfl rfl ?_
                exact J51 (b + 1) (BD_ext hBD c2)
              · skip
                refine w_aload_n F dX0_period_38 0 rfl ?_
                refine w_get F 0 in_X0 rfl rfl 6 (by decide) q38 rfl dX0_period_39 ?_
                refine w_iload_n F dX0_period_42 1 rfl ?_
                refine w_ialdX F 2 rfl dX0_period_43 (by omega) (by omega) ?_
                refine w_istore_n F [(0, .ref h), (1, .int (f b)), (2, .int (nI k))] dX0_period_44 (by decide) rfl rfl ?_
                refine w_goto F 19 dX0_period_45 (by decide) ?_
                refine ih2 _ ?_
                rcases BD_fall hI hBD with q | ⟨b2, q1, q2, q3⟩
                · exact Or.inl q
                · exact Or.inr ⟨b2, q1, by omega, q3⟩
        refine In (z + 1) vb ?_
        rcases Nat.eq_zero_or_pos k with e | e
        · left; rw [hv, e]; exact hI.1
        · obtain ⟨b, h1, h2⟩ := hI.2 k e (Nat.le_refl k)
          exact Or.inr ⟨b, by rw [hv, h1], by have := h2.1; omega, h2⟩
  refine w_aload_n F dX0_period_0 0 rfl ?_
  refine w_get F 0 in_X0 rfl rfl 6 (by decide) q38 rfl dX0_period_1 ?_
  refine w_iconst F (nI 0) dX0_period_4 (by decide) ?_
  refine w_iconst F (-1) dX0_period_5 (by decide) ?_
  refine w_iastX F 2 ([(h, .inr (0, [.ref ht, .int (nI z), .ref hcol, .ref hk, .int (nI m), .ref hs, .ref hb, .ref hr, .ref ho, .ref hn, .ref hl])), (ht, ar dA 256 t), (hb, ai dA 257 (upd f0 0 (-1)))]) rfl dX0_period_6 (by omega) (by omega) rfl ?_
  refine w_iconst F (-1) dX0_period_7 (by decide) ?_
  refine w_istore_n F [(0, .ref h), (1, .int (-1))] dX0_period_8 (by decide) rfl rfl ?_
  refine w_iconst F (nI 0) dX0_period_9 (by decide) ?_
  refine w_istore_n F [(0, .ref h), (1, .int (-1)), (2, .int (nI 0))] dX0_period_10 (by decide) rfl rfl ?_
  exact L1 (z + 1) 0 _ _ (by omega) (by omega) ⟨pk_us, fun j h1 h2 => by omega⟩ pk_us.symm
set_option maxHeartbeats 4000000 in
set_option maxRecDepth 100000 in
/-- where the least rotation begins -/
theorem met_least (l : Launch) (D : va_G) (dA : ClassId) (h ht hcol hk hs hb hr ho hn hl : Nat) (t : Nat → Nat) (z m n : Nat) (hn1 : 1 ≤ n) (hn2 : n ≤ 256) (hT : ∀ i, t i < 256) :
    CTI l D dA yX0_least cX0_least 6 .int ({ frames := 1, cells := 0, slots := 0, locals := 13 } : Room) [.ref h, .int (nI n)] [(h, .inr (0, [.ref ht, .int (nI z), .ref hcol, .ref hk, .int (nI m), .ref hs, .ref hb, .ref hr, .ref ho, .ref hn, .ref hl])), (ht, ar dA 256 t)] (S := Unit) (fun (r : Int32) _ => ∃ f, r = nI f ∧ f < n ∧ ∀ q, lexLe (wd t n) f q) (fun _ => [(h, .inr (0, [.ref ht, .int (nI z), .ref hcol, .ref hk, .int (nI m), .ref hs, .ref hb, .ref hr, .ref ho, .ref hn, .ref hl])), (ht, ar dA 256 t)]) := by
  refine CTI.intro (by decide) (Nat.le_of_ble_eq_true rfl) ?_
  intro M A F
  have F : FX M l D dA A cX0_least 6 RX0 (some .int) ({ frames := 1, cells := 0, slots := 0, locals := 13 } : Room) := F
  generalize hQ : QI M D dA A _ _ _ = Q
  show WW M D A 6 Q _ 0 0 0 [(0, .ref h), (1, .int (nI n))] []
  have L1 : ∀ (n_ i j k : Nat), i ≤ 2 * n → j ≤ 2 * n + 1 → k ≤ n → 5 * n + 1 < i + j + k + n_ → LI (wd t n) n i j k → WW M D A 6 Q [(h, .inr (0, [.ref ht, .int (nI z), .ref hcol, .ref hk, .int (nI m), .ref hs, .ref hb, .ref hr, .ref ho, .ref hn, .ref hl])), (ht, ar dA 256 t)] 0 0 7 [(0, .ref h), (1, .int (nI n)), (2, .int (nI i)), (3, .int (nI j)), (4, .int (nI k))] [] := by
    intro n_
    induction n_ with
    | zero => intro i j k gi gj gk gn hI; exfalso; omega
    | succ n_ ih =>
      intro i j k gi gj gk gn hI
      have J95 : (n ≤ i ∨ n ≤ j ∨ n ≤ k) → WW M D A 6 Q [(h, .inr (0, [.ref ht, .int (nI z), .ref hcol, .ref hk, .int (nI m), .ref hs, .ref hb, .ref hr, .ref ho, .ref hn, .ref hl])), (ht, ar dA 256 t)] 0 0 95 [(0, .ref h), (1, .int (nI n)), (2, .int (nI i)), (3, .int (nI j)), (4, .int (nI k))] [] := by
        intro he
        obtain ⟨e1, e2⟩ := LI_end (wd_per t n) (by omega) hI he
        refine w_iload_n F dX0_least_95 2 rfl ?_
        refine w_iload_n F dX0_least_96 3 rfl ?_
        refine w_mmin F q75 dX0_least_97 (by decide) (Nat.le_of_ble_eq_true rfl) (by decide) (by decide) (by omega) (by omega) ?_
        rw [← hQ]
        exact w_iret F dX0_least_100 rfl () ⟨min i j, rfl, e1, e2⟩ [0, 1] rfl rfl (by decide) (by decide)
      refine w_iload_n F dX0_least_7 2 rfl ?_
      refine w_iload_n F dX0_least_8 1 rfl ?_
      refine w_icmp_ge F 95 dX0_least_9 (by decide) (by omega) (by omega) (fun c1 => ?_) (fun c1 => ?_)
      · skip
        exact J95 (Or.inl c1)
      · skip
        refine w_iload_n F dX0_least_12 3 rfl ?_
        refine w_iload_n F dX0_least_13 1 rfl ?_
        refine w_icmp_ge F 95 dX0_least_14 (by decide) (by omega) (by omega) (fun c2 => ?_) (fun c2 => ?_)
        · skip
          exact J95 (Or.inr (Or.inl c2))
        · skip
          refine w_iload F dX0_least_17 4 rfl ?_
          refine w_iload_n F dX0_least_19 1 rfl ?_
          refine w_icmp_ge F 95 dX0_least_20 (by decide) (by omega) (by omega) (fun c3 => ?_) (fun c3 => ?_)
          · skip
            exact J95 (Or.inr (Or.inr c3))
          · skip
            have b1 : (i + k) % n < n := Nat.mod_lt _ (by omega)
            have b2 : (j + k) % n < n := Nat.mod_lt _ (by omega)
            refine w_aload_n F dX0_least_23 0 rfl ?_
            refine w_get F 0 in_X0 rfl rfl 0 (by decide) q32 rfl dX0_least_24 ?_
            refine w_iload_n F dX0_least_27 2 rfl ?_
            refine w_iload F dX0_least_28 4 rfl ?_
            refine w_iadd F dX0_least_30 ?_
            refine w_iload_n F dX0_least_31 1 rfl ?_
            refine w_irem F dX0_least_32 (by omega) (by omega) (by omega) ?_
            refine w_iald F 1 rfl dX0_least_33 (by omega) (by omega) ?_
            refine w_aload_n F dX0_least_34 0 rfl ?_
            refine w_get F 0 in_X0 rfl rfl 0 (by decide) q32 rfl dX0_least_35 ?_
            refine w_iload_n F dX0_least_38 3 rfl ?_
            refine w_iload F dX0_least_39 4 rfl ?_
            refine w_iadd F dX0_least_41 ?_
            refine w_iload_n F dX0_least_42 1 rfl ?_
            refine w_irem F dX0_least_43 (by omega) (by omega) (by omega) ?_
            refine w_iald F 1 rfl dX0_least_44 (by omega) (by omega) ?_
            refine w_isubX F dX0_least_45 ?_
            refine w_istore F [(0, .ref h), (1, .int (nI n)), (2, .int (nI i)), (3, .int (nI j)), (4, .int (nI k)), (5, .int ((nI (t ((i + k) % n))) - (nI (t ((j + k) % n)))))] dX0_least_46 (by decide) rfl rfl ?_
            refine w_iload F dX0_least_48 5 rfl ?_
            refine w_if_neX F 59 dX0_least_50 (by decide) (fun c4 => ?_) (fun c4 => ?_)
            · skip
              refine w_iload F dX0_least_59 5 rfl ?_
              refine w_if_leX F 74 dX0_least_61 (by decide) (fun c5 => ?_) (fun c5 => ?_)
              · skip
                have hlt : wd t n (i + k) < wd t n (j + k) := by
                  have h1 := (sub_le0 (hT _) (hT _)).mp c5
                  have h2 : t ((i + k) % n) ≠ t ((j + k) % n) := fun z => c4 ((sub_eq0 (hT _) (hT _)).mpr z)
                  show t ((i + k) % n) < t ((j + k) % n)
                  omega
                refine w_iload_n F dX0_least_74 3 rfl ?_
                refine w_iload F dX0_least_75 4 rfl ?_
                refine w_iconst F (nI 1) dX0_least_77 (by decide) ?_
                refine w_iadd F dX0_least_78 ?_
                refine w_iadd F dX0_least_79 ?_
                refine w_istore_n F [(0, .ref h), (1, .int (nI n)), (2, .int (nI i)), (3, .int (nI (j + (k + 1)))), (4, .int (nI k)), (5, .int ((nI (t ((i + k) % n))) - (nI (t ((j + k) % n)))))] dX0_least_80 (by decide) rfl rfl ?_
                refine w_iload_n F dX0_least_81 2 rfl ?_
                refine w_iload_n F dX0_least_82 3 rfl ?_
                refine w_icmp_ne F 89 dX0_least_83 (by decide) (by omega) (by omega) (fun c6 => ?_) (fun c6 => ?_)
                · skip
                  refine w_iconst F (nI 0) dX0_least_89 (by decide) ?_
                  refine w_istore F [(0, .ref h), (1, .int (nI n)), (2, .int (nI i)), (3, .int (nI (j + (k + 1)))), (4, .int (nI 0)), (5, .int ((nI (t ((i + k) % n))) - (nI (t ((j + k) % n)))))] dX0_least_90 (by decide) rfl rfl ?_
                  refine w_goto F 7 dX0_least_92 (by decide) ?_
                  refine w_lsub [0, 1, 2, 3, 4] rfl ?_
                  exact ih i (j + (k + 1)) 0 (by omega) (by omega) (by omega) (by omega) (LI_j hI c1 c2 hlt (Or.inl ⟨by omega, by omega⟩))
                · skip
                  refine w_iinc F (v := (nI (j + (k + 1) + 1))) [(0, .ref h), (1, .int (nI n)), (2, .int (nI i)), (3, .int (nI (j + (k + 1) + 1))), (4, .int (nI k)), (5, .int ((nI (t ((i + k) % n))) - (nI (t ((j + k) % n)))))] dX0_least_86 3 rfl (nI_add (j + (k + 1)) 1) (by decide) rfl rfl ?_
                  refine w_iconst F (nI 0) dX0_least_89 (by decide) ?_
                  refine w_istore F [(0, .ref h), (1, .int (nI n)), (2, .int (nI i)), (3, .int (nI (j + (k + 1) + 1))), (4, .int (nI 0)), (5, .int ((nI (t ((i + k) % n))) - (nI (t ((j + k) % n)))))] dX0_least_90 (by decide) rfl rfl ?_
                  refine w_goto F 7 dX0_least_92 (by decide) ?_
                  refine w_lsub [0, 1, 2, 3, 4] rfl ?_
                  exact ih i (j + (k + 1) + 1) 0 (by omega) (by omega) (by omega) (by omega) (LI_j hI c1 c2 hlt (Or.inr ⟨by omega, by omega⟩))
              · skip
                have hlt : wd t n (j + k) < wd t n (i + k) := by
                  have h1 : ¬ t ((i + k) % n) ≤ t ((j + k) % n) := fun z => c5 ((sub_le0 (hT _) (hT _)).mpr z)
                  show t ((j + k) % n) < t ((i + k) % n)
                  omega
                refine w_iload_n F dX0_least_64 2 rfl ?_
                refine w_iload F dX0_least_65 4 rfl ?_
                refine w_iconst F (nI 1) dX0_least_67 (by decide) ?_
                refine w_iadd F dX0_least_68 ?_
                refine w_iadd F dX0_least_69 ?_
                refine w_istore_n F [(0, .ref h), (1, .int (nI n)), (2, .int (nI (i + (k + 1)))), (3, .int (nI j)), (4, .int (nI k)), (5, .int ((nI (t ((i + k) % n))) - (nI (t ((j + k) % n)))))] dX0_least_70 (by decide) rfl rfl ?_
                refine w_goto F 81 dX0_least_71 (by decide) ?_
                refine w_iload_n F dX0_least_81 2 rfl ?_
                refine w_iload_n F dX0_least_82 3 rfl ?_
                refine w_icmp_ne F 89 dX0_least_83 (by decide) (by omega) (by omega) (fun c6 => ?_) (fun c6 => ?_)
                · skip
                  refine w_iconst F (nI 0) dX0_least_89 (by decide) ?_
                  refine w_istore F [(0, .ref h), (1, .int (nI n)), (2, .int (nI (i + (k + 1)))), (3, .int (nI j)), (4, .int (nI 0)), (5, .int ((nI (t ((i + k) % n))) - (nI (t ((j + k) % n)))))] dX0_least_90 (by decide) rfl rfl ?_
                  refine w_goto F 7 dX0_least_92 (by decide) ?_
                  refine w_lsub [0, 1, 2, 3, 4] rfl ?_
                  exact ih (i + (k + 1)) j 0 (by omega) (by omega) (by omega) (by omega) (LI_i hI c1 c2 hlt (Or.inl ⟨by omega, by omega⟩))
                · skip
                  refine w_iinc F (v := (nI (j + 1))) [(0, .ref h), (1, .int (nI n)), (2, .int (nI (i + (k + 1)))), (3, .int (nI (j + 1))), (4, .int (nI k)), (5, .int ((nI (t ((i + k) % n))) - (nI (t ((j + k) % n)))))] dX0_least_86 3 rfl (nI_add j 1) (by decide) rfl rfl ?_
                  refine w_iconst F (nI 0) dX0_least_89 (by decide) ?_
                  refine w_istore F [(0, .ref h), (1, .int (nI n)), (2, .int (nI (i + (k + 1)))), (3, .int (nI (j + 1))), (4, .int (nI 0)), (5, .int ((nI (t ((i + k) % n))) - (nI (t ((j + k) % n)))))] dX0_least_90 (by decide) rfl rfl ?_
                  refine w_goto F 7 dX0_least_92 (by decide) ?_
                  refine w_lsub [0, 1, 2, 3, 4] rfl ?_
                  exact ih (i + (k + 1)) (j + 1) 0 (by omega) (by omega) (by omega) (by omega) (LI_i hI c1 c2 hlt (Or.inr ⟨by omega, by omega⟩))
            · skip
              refine w_iinc F (v := (nI (k + 1))) [(0, .ref h), (1, .int (nI n)), (2, .int (nI i)), (3, .int (nI j)), (4, .int (nI (k + 1))), (5, .int ((nI (t ((i + k) % n))) - (nI (t ((j + k) % n)))))] dX0_least_53 4 rfl (nI_add k 1) (by decide) rfl rfl ?_
              refine w_goto F 7 dX0_least_56 (by decide) ?_
              refine w_lsub [0, 1, 2, 3, 4] rfl ?_
              exact ih i j (k + 1) (by omega) (by omega) (by omega) (by omega) (LI_eq hI ((sub_eq0 (hT _) (hT _)).mp c4))
  refine w_iconst F (nI 0) dX0_least_0 (by decide) ?_
  refine w_istore_n F [(0, .ref h), (1, .int (nI n)), (2, .int (nI 0))] dX0_least_1 (by decide) rfl rfl ?_
  refine w_iconst F (nI 1) dX0_least_2 (by decide) ?_
  refine w_istore_n F [(0, .ref h), (1, .int (nI n)), (2, .int (nI 0)), (3, .int (nI 1))] dX0_least_3 (by decide) rfl rfl ?_
  refine w_iconst F (nI 0) dX0_least_4 (by decide) ?_
  refine w_istore F [(0, .ref h), (1, .int (nI n)), (2, .int (nI 0)), (3, .int (nI 1)), (4, .int (nI 0))] dX0_least_5 (by decide) rfl rfl ?_
  exact L1 (5 * n + 2) 0 1 0 (by omega) (by omega) (by omega) (by omega) ⟨by omega, by omega, fun t ht => absurd ht (Nat.not_lt_zero t), fun p h1 h2 h3 => by omega⟩
set_option maxHeartbeats 4000000 in
set_option maxRecDepth 100000 in
/-- bytes get names in their order -/
theorem met_name (l : Launch) (D : va_G) (dA : ClassId) (h ht hcol hk hs hb hr ho hn hl : Nat) (t rt0 g0 : Nat → Nat) (z m n f : Nat) (hn1 : 1 ≤ n) (hn2 : n ≤ 256) (hf : f < n) (hT : ∀ i, t i < 256) (hrb : ∀ i, rt0 i < 1000) :
    CTI l D dA yX0_name cX0_name 5 .int ({ frames := 0, cells := 0, slots := 0, locals := 0 } : Room) [.ref h, .int (nI n), .int (nI f)] [(h, .inr (0, [.ref ht, .int (nI z), .ref hcol, .ref hk, .int (nI m), .ref hs, .ref hb, .ref hr, .ref ho, .ref hn, .ref hl])), (ht, ar dA 256 t), (hr, ar dA 260 rt0), (hn, ar dA 257 g0)] (S := ((Nat → Nat) × (Nat → Nat))) (fun (r : Int32) u => (∃ most, r = nI most ∧ NP t n f most u.1) ∧ ∀ i, u.1 i < 1000) (fun u => [(h, .inr (0, [.ref ht, .int (nI z), .ref hcol, .ref hk, .int (nI m), .ref hs, .ref hb, .ref hr, .ref ho, .ref hn, .ref hl])), (ht, ar dA 256 t), (hr, ar dA 260 u.1), (hn, ar dA 257 u.2)]) := by
  refine CTI.intro (by decide) (Nat.le_of_ble_eq_true rfl) ?_
  intro M A F
  have F : FX M l D dA A cX0_name 5 RX0 (some .int) ({ frames := 0, cells := 0, slots := 0, locals := 0 } : Room) := F
  generalize hQ : QI M D dA A _ _ _ = Q
  show WW M D A 5 Q _ 0 0 0 [(0, .ref h), (1, .int (nI n)), (2, .int (nI f))] []
  have J93 : ∀ (many : Nat) (w g : Nat → Nat), many ≤ 256 → N2 t n w → N3 w 256 many g → WW M D A 5 Q [(h, .inr (0, [.ref ht, .int (nI z), .ref hcol, .ref hk, .int (nI m), .ref hs, .ref hb, .ref hr, .ref ho, .ref hn, .ref hl])), (ht, ar dA 256 t), (hr, ar dA 260 rt0), (hn, ar dA 257 g)] 0 0 90 [(0, .ref h), (1, .int (nI n)), (2, .int (nI f)), (3, .int (nI many))] [] := by
    intro many w g hmn hw hg
    have hgb : ∀ i, g (t i) < 1000 := fun i => by
      rw [hg.2.1 (t i) (hT i)]
      have h1 := ce_le w 1 (t i + 1)
      have h2 := hT i
      split <;> omega
    have L131 : ∀ (n_ k : Nat) (rt : Nat → Nat), k ≤ 3 → 3 < k + n_ → (∀ j, j < n → rt j = g (t ((f + j) % n))) → (∀ j, j < k → rt (n + j) = 0) → (∀ i, rt i < 1000) → WW M D A 5 Q [(h, .inr (0, [.ref ht, .int (nI z), .ref hcol, .ref hk, .int (nI m), .ref hs, .ref hb, .ref hr, .ref ho, .ref hn, .ref hl])), (ht, ar dA 256 t), (hr, ar dA 260 rt), (hn, ar dA 257 g)] 0 0 131 [(0, .ref h), (1, .int (nI n)), (2, .int (nI f)), (3, .int (nI many)), (4, .int (nI k))] [] := by
      intro n_
      induction n_ with
      | zero => intro k rt gk gn h1 h2 hb3; exfalso; omega
      | succ n_ ih =>
        intro k rt gk gn h1 h2 hb3
        refine w_iload F dX0_name_131 4 rfl ?_
        refine w_iconst F (nI 3) dX0_name_133 (by decide) ?_
        refine w_icmp_ge F 153 dX0_name_134 (by decide) (by omega) (by omega) (fun c => ?_) (fun c => ?_)
        · skip
          refine w_iload_n F dX0_name_153 3 rfl ?_
          rw [← hQ]
          exact w_iret F dX0_name_154 rfl (rt, g) ⟨⟨many, rfl, NP_of hT hw hg (h2 0 (by omega)) (h2 1 (by omega)) (h2 2 (by omega)) h1⟩, hb3⟩ [0, 1, 2, 3] rfl rfl (by decide) (by decide)
        · skip
          refine w_aload_n F dX0_name_137 0 rfl ?_
          refine w_get F 0 in_X0 rfl rfl 7 (by decide) q39 rfl dX0_name_138 ?_
          refine w_iload_n F dX0_name_141 1 rfl ?_
          refine w_iload F dX0_name_142 4 rfl ?_
          refine w_iadd F dX0_name_144 ?_
          refine w_iconst F (nI 0) dX0_name_145 (by decide) ?_
          refine w_iast F 2 ([(h, .inr (0, [.ref ht, .int (nI z), .ref hcol, .ref hk, .int (nI m), .ref hs, .ref hb, .ref hr, .ref ho, .ref hn, .ref hl])), (ht, ar dA 256 t), (hr, ar dA 260 (upN rt (n + k) 0)), (hn, ar dA 257 g)]) rfl dX0_name_146 (by omega) (by omega) rfl ?_
          refine w_iinc F (v := (nI (k + 1))) [(0, .ref h), (1, .int (nI n)), (2, .int (nI f)), (3, .int (nI many)), (4, .int (nI (k + 1)))] dX0_name_147 4 rfl (nI_add k 1) (by decide) rfl rfl ?_
          refine w_goto F 131 dX0_name_150 (by decide) ?_
          refine ih (k + 1) _ (by omega) (by omega) (fun j hj => ?_) (fun j hj => ?_) (upN_lt hb3 (by decide))
          · rw [upN_ne (by omega)]; exact h1 j hj
          · by_cases e : j = k
            · rw [e, upN_same]
            · rw [upN_ne (by omega)]; exact h2 j (by omega)
    have L93 : ∀ (n_ k : Nat) (rt : Nat → Nat), k ≤ n → n < k + n_ → (∀ j, j < k → rt j = g (t ((f + j) % n))) → (∀ i, rt i < 1000) → WW M D A 5 Q [(h, .inr (0, [.ref ht, .int (nI z), .ref hcol, .ref hk, .int (nI m), .ref hs, .ref hb, .ref hr, .ref ho, .ref hn, .ref hl])), (ht, ar dA 256 t), (hr, ar dA 260 rt), (hn, ar dA 257 g)] 0 0 93 [(0, .ref h), (1, .int (nI n)), (2, .int (nI f)), (3, .int (nI many)), (4, .int (nI k))] [] := by
      intro n_
      induction n_ with
      | zero => intro k rt gk gn h1 hb3; exfalso; omega
      | succ n_ ih =>
        intro k rt gk gn h1 hb3
        refine w_iload F dX0_name_93 4 rfl ?_
        refine w_iload_n F dX0_name_95 1 rfl ?_
        refine w_icmp_ge F 128 dX0_name_96 (by decide) (by omega) (by omega) (fun c => ?_) (fun c => ?_)
        · skip
          have e : n = k := by omega
          subst e
          refine w_iconst F (nI 0) dX0_name_128 (by decide) ?_
          refine w_istore F [(0, .ref h), (1, .int (nI n)), (2, .int (nI f)), (3, .int (nI many)), (4, .int (nI 0))] dX0_name_129 (by decide) rfl rfl ?_
          exact L131 4 0 _ (by omega) (by omega) h1 (fun j hj => absurd hj (Nat.not_lt_zero j)) hb3
        · skip
          have b1 : (f + k) % n < n := Nat.mod_lt _ (by omega)
          have b2 := hT ((f + k) % n)
          refine w_aload_n F dX0_name_99 0 rfl ?_
          refine w_get F 0 in_X0 rfl rfl 7 (by decide) q39 rfl dX0_name_100 ?_
          refine w_iload F dX0_name_103 4 rfl ?_
          refine w_aload_n F dX0_name_105 0 rfl ?_
          refine w_get F 0 in_X0 rfl rfl 9 (by decide) q41 rfl dX0_name_106 ?_
          refine w_aload_n F dX0_name_109 0 rfl ?_
          refine w_get F 0 in_X0 rfl rfl 0 (by decide) q32 rfl dX0_name_110 ?_
          refine w_iload_n F dX0_name_113 2 rfl ?_
          refine w_iload F dX0_name_114 4 rfl ?_
          refine w_iadd F dX0_name_116 ?_
          refine w_iload_n F dX0_name_117 1 rfl ?_
          refine w_irem F dX0_name_118 (by omega) (by omega) (by omega) ?_
          refine w_iald F 1 rfl dX0_name_119 (by omega) (by omega) ?_
          refine w_iald F 3 rfl dX0_name_120 (by omega) (by omega) ?_
          refine w_iast F 2 ([(h, .inr (0, [.ref ht, .int (nI z), .ref hcol, .ref hk, .int (nI m), .ref hs, .ref hb, .ref hr, .ref ho, .ref hn, .ref hl])), (ht, ar dA 256 t), (hr, ar dA 260 (upN rt k (g (t ((f + k) % n))))), (hn, ar dA 257 g)]) rfl dX0_name_121 (by omega) (by omega) rfl ?_
          refine w_iinc F (v := (nI (k + 1))) [(0, .ref h), (1, .int (nI n)), (2, .int (nI f)), (3, .int (nI many)), (4, .int (nI (k + 1)))] dX0_name_122 4 rfl (nI_add k 1) (by decide) rfl rfl ?_
          refine w_goto F 93 dX0_name_125 (by decide) ?_
          refine ih (k + 1) _ (by omega) (by omega) (fun j hj => ?_) (upN_lt hb3 (hgb _))
          by_cases e : j = k
          · rw [e, upN_same]
          · rw [upN_ne e]; exact h1 j (by omega)
    refine w_iconst F (nI 0) dX0_name_90 (by decide) ?_
    refine w_istore F [(0, .ref h), (1, .int (nI n)), (2, .int (nI f)), (3, .int (nI many)), (4, .int (nI 0))] dX0_name_91 (by decide) rfl rfl ?_
    exact L93 (n + 1) 0 _ (by omega) (by omega) (fun j hj => absurd hj (Nat.not_lt_zero j)) hrb
  have J47 : ∀ (w : Nat → Nat), N2 t n w → WW M D A 5 Q [(h, .inr (0, [.ref ht, .int (nI z), .ref hcol, .ref hk, .int (nI m), .ref hs, .ref hb, .ref hr, .ref ho, .ref hn, .ref hl])), (ht, ar dA 256 t), (hr, ar dA 260 rt0), (hn, ar dA 257 w)] 0 0 47 [(0, .ref h), (1, .int (nI n)), (2, .int (nI f))] [] := by
    intro w hw
    have L52 : ∀ (n_ k many : Nat) (g : Nat → Nat), k ≤ 256 → 256 < k + n_ → N3 w k many g → WW M D A 5 Q [(h, .inr (0, [.ref ht, .int (nI z), .ref hcol, .ref hk, .int (nI m), .ref hs, .ref hb, .ref hr, .ref ho, .ref hn, .ref hl])), (ht, ar dA 256 t), (hr, ar dA 260 rt0), (hn, ar dA 257 g)] 0 0 52 [(0, .ref h), (1, .int (nI n)), (2, .int (nI f)), (3, .int (nI many)), (4, .int (nI k))] [] := by
      intro n_
      induction n_ with
      | zero => intro k many g gk gn hI; exfalso; omega
      | succ n_ ih =>
        intro k many g gk gn hI
        have hmn : many ≤ k := by rw [hI.1]; exact ce_le _ _ _
        refine w_iload F dX0_name_52 4 rfl ?_
        refine w_sipush F (nI 256) dX0_name_54 (by decide) ?_
        refine w_icmp_ge F 90 dX0_name_57 (by decide) (by omega) (by omega) (fun c => ?_) (fun c => ?_)
        · skip
          have e : 256 = k := by omega
          subst e
          refine w_lsub [0, 1, 2, 3] rfl ?_
          exact J93 many w g (by omega) hw hI
        · skip
          have b1 : g k < 1000 := by rw [hI.2.2 k (Nat.le_refl k) c]; rcases hw k c with q | q <;> omega
          refine w_aload_n F dX0_name_60 0 rfl ?_
          refine w_get F 0 in_X0 rfl rfl 9 (by decide) q41 rfl dX0_name_61 ?_
          refine w_iload F dX0_name_64 4 rfl ?_
          refine w_iald F 3 rfl dX0_name_66 (by omega) (by omega) ?_
          refine w_if_ne F 73 dX0_name_67 (by decide) (by omega) (fun c2 => ?_) (fun c2 => ?_)
          · skip
            refine w_iinc F (v := (nI (many + 1))) [(0, .ref h), (1, .int (nI n)), (2, .int (nI f)), (3, .int (nI (many + 1))), (4, .int (nI k))] dX0_name_73 3 rfl (nI_add many 1) (by decide) rfl rfl ?_
            refine w_aload_n F dX0_name_76 0 rfl ?_
            refine w_get F 0 in_X0 rfl rfl 9 (by decide) q41 rfl dX0_name_77 ?_
            refine w_iload F dX0_name_80 4 rfl ?_
            refine w_iload_n F dX0_name_82 3 rfl ?_
            refine w_iast F 3 ([(h, .inr (0, [.ref ht, .int (nI z), .ref hcol, .ref hk, .int (nI m), .ref hs, .ref hb, .ref hr, .ref ho, .ref hn, .ref hl])), (ht, ar dA 256 t), (hr, ar dA 260 rt0), (hn, ar dA 257 (upN g k (many + 1)))]) rfl dX0_name_83 (by omega) (by omega) rfl ?_
            refine w_iinc F (v := (nI (k + 1))) [(0, .ref h), (1, .int (nI n)), (2, .int (nI f)), (3, .int (nI (many + 1))), (4, .int (nI (k + 1)))] dX0_name_84 4 rfl (nI_add k 1) (by decide) rfl rfl ?_
            refine w_goto F 52 dX0_name_87 (by decide) ?_
            exact ih (k + 1) (many + 1) _ (by omega) (by omega) (N3_put hw hI c c2)
          · skip
            refine w_goto F 84 dX0_name_70 (by decide) ?_
            refine w_iinc F (v := (nI (k + 1))) [(0, .ref h), (1, .int (nI n)), (2, .int (nI f)), (3, .int (nI many)), (4, .int (nI (k + 1)))] dX0_name_84 4 rfl (nI_add k 1) (by decide) rfl rfl ?_
            refine w_goto F 52 dX0_name_87 (by decide) ?_
            exact ih (k + 1) many _ (by omega) (by omega) (N3_skip hw hI c c2)
    refine w_iconst F (nI 0) dX0_name_47 (by decide) ?_
    refine w_istore_n F [(0, .ref h), (1, .int (nI n)), (2, .int (nI f)), (3, .int (nI 0))] dX0_name_48 (by decide) rfl rfl ?_
    refine w_iconst F (nI 0) dX0_name_49 (by decide) ?_
    refine w_istore F [(0, .ref h), (1, .int (nI n)), (2, .int (nI f)), (3, .int (nI 0)), (4, .int (nI 0))] dX0_name_50 (by decide) rfl rfl ?_
    exact L52 257 0 0 _ (by omega) (by omega) ⟨rfl, fun v hv => absurd hv (Nat.not_lt_zero v), fun _ _ _ => rfl⟩
  have L24 : ∀ (n_ k : Nat) (w : Nat → Nat), k ≤ n → n < k + n_ → N2 t k w → WW M D A 5 Q [(h, .inr (0, [.ref ht, .int (nI z), .ref hcol, .ref hk, .int (nI m), .ref hs, .ref hb, .ref hr, .ref ho, .ref hn, .ref hl])), (ht, ar dA 256 t), (hr, ar dA 260 rt0), (hn, ar dA 257 w)] 0 0 24 [(0, .ref h), (1, .int (nI n)), (2, .int (nI f)), (3, .int (nI k))] [] := by
    intro n_
    induction n_ with
    | zero => intro k w gk gn hI; exfalso; omega
    | succ n_ ih =>
      intro k w gk gn hI
      refine w_iload_n F dX0_name_24 3 rfl ?_
      refine w_iload_n F dX0_name_25 1 rfl ?_
      refine w_icmp_ge F 47 dX0_name_26 (by decide) (by omega) (by omega) (fun c => ?_) (fun c => ?_)
      · skip
        have e : n = k := by omega
        subst e
        refine w_lsub [0, 1, 2] rfl ?_
        exact J47 w hI
      · skip
        have b2 := hT k
        refine w_aload_n F dX0_name_29 0 rfl ?_
        refine w_get F 0 in_X0 rfl rfl 9 (by decide) q41 rfl dX0_name_30 ?_
        refine w_aload_n F dX0_name_33 0 rfl ?_
        refine w_get F 0 in_X0 rfl rfl 0 (by decide) q32 rfl dX0_name_34 ?_
        refine w_iload_n F dX0_name_37 3 rfl ?_
        refine w_iald F 1 rfl dX0_name_38 (by omega) (by omega) ?_
        refine w_iconst F (nI 1) dX0_name_39 (by decide) ?_
        refine w_iast F 3 ([(h, .inr (0, [.ref ht, .int (nI z), .ref hcol, .ref hk, .int (nI m), .ref hs, .ref hb, .ref hr, .ref ho, .ref hn, .ref hl])), (ht, ar dA 256 t), (hr, ar dA 260 rt0), (hn, ar dA 257 (upN w (t k) 1))]) rfl dX0_name_40 (by omega) (by omega) rfl ?_
        refine w_iinc F (v := (nI (k + 1))) [(0, .ref h), (1, .int (nI n)), (2, .int (nI f)), (3, .int (nI (k + 1)))] dX0_name_41 3 rfl (nI_add k 1) (by decide) rfl rfl ?_
        refine w_goto F 24 dX0_name_44 (by decide) ?_
        exact ih (k + 1) _ (by omega) (by omega) (N2_step hI)
  have L2 : ∀ (n_ k : Nat) (w : Nat → Nat), k ≤ 256 → 256 < k + n_ → (∀ j, j < k → w j = 0) → WW M D A 5 Q [(h, .inr (0, [.ref ht, .int (nI z), .ref hcol, .ref hk, .int (nI m), .ref hs, .ref hb, .ref hr, .ref ho, .ref hn, .ref hl])), (ht, ar dA 256 t), (hr, ar dA 260 rt0), (hn, ar dA 257 w)] 0 0 2 [(0, .ref h), (1, .int (nI n)), (2, .int (nI f)), (3, .int (nI k))] [] := by
    intro n_
    induction n_ with
    | zero => intro k w gk gn hI; exfalso; omega
    | succ n_ ih =>
      intro k w gk gn hI
      refine w_iload_n F dX0_name_2 3 rfl ?_
      refine w_sipush F (nI 256) dX0_name_3 (by decide) ?_
      refine w_icmp_ge F 22 dX0_name_6 (by decide) (by omega) (by omega) (fun c => ?_) (fun c => ?_)
      · skip
        refine w_iconst F (nI 0) dX0_name_22 (by decide) ?_
        refine w_istore_n F [(0, .ref h), (1, .int (nI n)), (2, .int (nI f)), (3, .int (nI 0))] dX0_name_23 (by decide) rfl rfl ?_
        exact L24 (n + 1) 0 _ (by omega) (by omega) (fun v hv => Or.inr ⟨hI v (by omega), fun i hi => absurd hi (Nat.not_lt_zero i)⟩)
      · skip
        refine w_aload_n F dX0_name_9 0 rfl ?_
        refine w_get F 0 in_X0 rfl rfl 9 (by decide) q41 rfl dX0_name_10 ?_
        refine w_iload_n F dX0_name_13 3 rfl ?_
        refine w_iconst F (nI 0) dX0_name_14 (by decide) ?_
        refine w_iast F 3 ([(h, .inr (0, [.ref ht, .int (nI z), .ref hcol, .ref hk, .int (nI m), .ref hs, .ref hb, .ref hr, .ref ho, .ref hn, .ref hl])), (ht, ar dA 256 t), (hr, ar dA 260 rt0), (hn, ar dA 257 (upN w k 0))]) rfl dX0_name_15 (by omega) (by omega) rfl ?_
        refine w_iinc F (v := (nI (k + 1))) [(0, .ref h), (1, .int (nI n)), (2, .int (nI f)), (3, .int (nI (k + 1)))] dX0_name_16 3 rfl (nI_add k 1) (by decide) rfl rfl ?_
        refine w_goto F 2 dX0_name_19 (by decide) ?_
        refine ih (k + 1) _ (by omega) (by omega) (fun j hj => ?_)
        by_cases e : j = k
        · rw [e, upN_same]
        · rw [upN_ne e]; exact hI j (by omega)
  refine w_iconst F (nI 0) dX0_name_0 (by decide) ?_
  refine w_istore_n F [(0, .ref h), (1, .int (nI n)), (2, .int (nI f)), (3, .int (nI 0))] dX0_name_1 (by decide) rfl rfl ?_
  exact L2 257 0 _ (by omega) (by omega) (fun j hj => absurd hj (Nat.not_lt_zero j))
set_option maxHeartbeats 4000000 in
set_option maxRecDepth 100000 in
/-- the text from the column -/
theorem met_goBack (l : Launch) (D : va_G) (dA : ClassId) (h ht hcol hk hs hb hr ho hn hl : Nat) (col kp0 lk0 T : Nat → Nat) (z m row : Nat) (hm1 : 1 ≤ m) (hm2 : m ≤ 256) (hc : ∀ j, j < m → col j < 256) (J : Nat → Nat → Prop) (hr0 : row < m) (hJ0 : J m row) (hJ : ∀ k x, k < m → x < m → J (k + 1) x → col x = T k ∧ J k (pos col m x)) :
    CTV l D dA yX0_goBack cX0_goBack 5 ({ frames := 0, cells := 0, slots := 0, locals := 0 } : Room) [.ref h, .int (nI row)] [(h, .inr (0, [.ref ht, .int (nI z), .ref hcol, .ref hk, .int (nI m), .ref hs, .ref hb, .ref hr, .ref ho, .ref hn, .ref hl])), (hcol, ar dA 256 col), (hk, ar dA 256 kp0), (hl, ar dA 256 lk0)] (S := ((Nat → Nat) × (Nat → Nat))) (fun u => ∀ j, j < m → u.1 j = T j) (fun u => [(h, .inr (0, [.ref ht, .int (nI z), .ref hcol, .ref hk, .int (nI m), .ref hs, .ref hb, .ref hr, .ref ho, .ref hn, .ref hl])), (hcol, ar dA 256 col), (hk, ar dA 256 u.1), (hl, ar dA 256 u.2)]) := by
  refine CTV.intro (by decide) (Nat.le_of_ble_eq_true rfl) ?_
  intro M A F hin
  have F : FX M l D dA A cX0_goBack 5 RX0 none ({ frames := 0, cells := 0, slots := 0, locals := 0 } : Room) := F
  generalize hQ : QV M D dA A _ _ _ = Q
  show WW M D A 5 Q _ 0 0 0 [(0, .ref h), (1, .int (nI row))] []
  have J60 : ∀ (lk : Nat → Nat), (∀ j, j < m → lk j = pos col m j) → WW M D A 5 Q [(h, .inr (0, [.ref ht, .int (nI z), .ref hcol, .ref hk, .int (nI m), .ref hs, .ref hb, .ref hr, .ref ho, .ref hn, .ref hl])), (hcol, ar dA 256 col), (hk, ar dA 256 kp0), (hl, ar dA 256 lk)] 0 0 60 [(0, .ref h), (1, .int (nI row))] [] := by
    intro lk hlk
    have L70 : ∀ (k x : Nat) (kp : Nat → Nat), k ≤ m → x < m → J k x → (∀ j, k ≤ j → j < m → kp j = T j) → WW M D A 5 Q [(h, .inr (0, [.ref ht, .int (nI z), .ref hcol, .ref hk, .int (nI m), .ref hs, .ref hb, .ref hr, .ref ho, .ref hn, .ref hl])), (hcol, ar dA 256 col), (hk, ar dA 256 kp), (hl, ar dA 256 lk)] 0 0 70 [(0, .ref h), (1, .int (nI row)), (3, .int (nI x)), (4, .int (dn k))] [] := by
      intro k
      induction k with
      | zero =>
        intro x kp gk gx hx hkp
        show WW M D A 5 Q [(h, .inr (0, [.ref ht, .int (nI z), .ref hcol, .ref hk, .int (nI m), .ref hs, .ref hb, .ref hr, .ref ho, .ref hn, .ref hl])), (hcol, ar dA 256 col), (hk, ar dA 256 kp), (hl, ar dA 256 lk)] 0 0 70 [(0, .ref h), (1, .int (nI row)), (3, .int (nI x)), (4, .int (-1))] []
        refine w_iload F dX0_goBack_70 3 rfl ?_
        refine w_if_ltX F 101 dX0_goBack_72 (by decide) (fun c => ?_) (fun c => ?_)
        · skip
          rw [← hQ]
          exact w_vret F dX0_goBack_101 (kp, lk) (fun j hj => hkp j (Nat.zero_le j) hj) [0, 1, 2, 3] rfl rfl (by decide) (by decide)
        · skip
          exact absurd (by decide) c
      | succ k ih =>
        intro x kp gk gx hx hkp
        show WW M D A 5 Q [(h, .inr (0, [.ref ht, .int (nI z), .ref hcol, .ref hk, .int (nI m), .ref hs, .ref hb, .ref hr, .ref ho, .ref hn, .ref hl])), (hcol, ar dA 256 col), (hk, ar dA 256 kp), (hl, ar dA 256 lk)] 0 0 70 [(0, .ref h), (1, .int (nI row)), (3, .int (nI x)), (4, .int (nI k))] []
        obtain ⟨e1, e2⟩ := hJ k x (by omega) gx hx
        have e3 := hlk x gx
        have e4 := pos_lt (κ := col) gx
        refine w_iload F dX0_goBack_70 3 rfl ?_
        refine w_if_ltN F 101 dX0_goBack_72 (by decide) (by omega) ?_
        refine w_aload_n F dX0_goBack_75 0 rfl ?_
        refine w_get F 0 in_X0 rfl rfl 3 (by decide) q35 rfl dX0_goBack_76 ?_
        refine w_iload F dX0_goBack_79 3 rfl ?_
        refine w_aload_n F dX0_goBack_81 0 rfl ?_
        refine w_get F 0 in_X0 rfl rfl 2 (by decide) q34 rfl dX0_goBack_82 ?_
        refine w_iload_n F dX0_goBack_85 2 rfl ?_
        refine w_iald F 1 rfl dX0_goBack_86 (by omega) (by omega) ?_
        refine w_iast F 2 ([(h, .inr (0, [.ref ht, .int (nI z), .ref hcol, .ref hk, .int (nI m), .ref hs, .ref hb, .ref hr, .ref ho, .ref hn, .ref hl])), (hcol, ar dA 256 col), (hk, ar dA 256 (upN kp k (col x))), (hl, ar dA 256 lk)]) rfl dX0_goBack_87 (by omega) (by omega) rfl ?_
        refine w_aload_n F dX0_goBack_88 0 rfl ?_
        refine w_get F 0 in_X0 rfl rfl 10 (by decide) q42 rfl dX0_goBack_89 ?_
        refine w_iload_n F dX0_goBack_92 2 rfl ?_
        refine w_iald F 3 rfl dX0_goBack_93 (by omega) (by omega) ?_
        refine w_istore_n F [(0, .ref h), (1, .int (nI row)), (3, .int (nI (lk x))), (4, .int (nI k))] dX0_goBack_94 (by decide) rfl rfl ?_
        refine w_iinc F (v := (dn k)) [(0, .ref h), (1, .int (nI row)), (3, .int (nI (lk x))), (4, .int (dn k))] dX0_goBack_95 3 rfl (dn_step k) (by decide) rfl rfl ?_
        refine w_goto F 70 dX0_goBack_98 (by decide) ?_
        refine ih _ _ (by omega) (by rw [e3]; exact e4) (by rw [e3]; exact e2) (fun j h1 h2 => ?_)
        by_cases e : j = k
        · rw [e, upN_same]; exact e1
        · rw [upN_ne e]; exact hkp j (by omega) h2
    refine w_iload_n F dX0_goBack_60 1 rfl ?_
    refine w_istore_n F [(0, .ref h), (1, .int (nI row)), (3, .int (nI row))] dX0_goBack_61 (by decide) rfl rfl ?_
    refine w_aload_n F dX0_goBack_62 0 rfl ?_
    refine w_get F 0 in_X0 rfl rfl 4 (by decide) q36 rfl dX0_goBack_63 ?_
    refine w_iconst F (nI 1) dX0_goBack_66 (by decide) ?_
    refine w_isub F dX0_goBack_67 (by omega) ?_
    refine w_top (y := (dn m)) (dn_of (by omega)) ?_
    refine w_istore F [(0, .ref h), (1, .int (nI row)), (3, .int (nI row)), (4, .int (dn m))] dX0_goBack_68 (by decide) rfl rfl ?_
    exact L70 m row _ (Nat.le_refl m) hr0 hJ0 (fun j h1 h2 => by omega)
  have L4 : ∀ (n b sum : Nat) (lk : Nat → Nat), b ≤ 256 → 256 < b + n → GI col m b 0 sum lk → WW M D A 5 Q [(h, .inr (0, [.ref ht, .int (nI z), .ref hcol, .ref hk, .int (nI m), .ref hs, .ref hb, .ref hr, .ref ho, .ref hn, .ref hl])), (hcol, ar dA 256 col), (hk, ar dA 256 kp0), (hl, ar dA 256 lk)] 0 0 4 [(0, .ref h), (1, .int (nI row)), (2, .int (nI sum)), (3, .int (nI b))] [] := by
    intro n
    induction n with
    | zero => intro b sum lk gb gn hI; exfalso; omega
    | succ n ih =>
      intro b sum lk gb gn hI
      refine w_iload_n F dX0_goBack_4 3 rfl ?_
      refine w_sipush F (nI 256) dX0_goBack_5 (by decide) ?_
      refine w_icmp_ge F 60 dX0_goBack_8 (by decide) (by omega) (by omega) (fun c => ?_) (fun c => ?_)
      · skip
        have e : 256 = b := by omega
        subst e
        refine w_lsub [0, 1] rfl ?_
        exact J60 lk (fun j hj => hI.2 j hj (Or.inl (hc j hj)))
      · skip
        have L14 : ∀ (n2 k sum : Nat) (lk : Nat → Nat), k ≤ m → m < k + n2 → GI col m b k sum lk → WW M D A 5 Q [(h, .inr (0, [.ref ht, .int (nI z), .ref hcol, .ref hk, .int (nI m), .ref hs, .ref hb, .ref hr, .ref ho, .ref hn, .ref hl])), (hcol, ar dA 256 col), (hk, ar dA 256 kp0), (hl, ar dA 256 lk)] 0 0 14 [(0, .ref h), (1, .int (nI row)), (2, .int (nI sum)), (3, .int (nI b)), (4, .int (nI k))] [] := by
          intro n2
          induction n2 with
          | zero => intro k sum lk gk gn2 hI2; exfalso; omega
          | succ n2 ih2 =>
            intro k sum lk gk gn2 hI2
            refine w_iload F dX0_goBack_14 4 rfl ?_
            refine w_aload_n F dX0_goBack_16 0 rfl ?_
            refine w_get F 0 in_X0 rfl rfl 4 (by decide) q36 rfl dX0_goBack_17 ?_
            refine w_icmp_ge F 54 dX0_goBack_20 (by decide) (by omega) (by omega) (fun c2 => ?_) (fun c2 => ?_)
            · skip
              refine w_lsub [0, 1, 2, 3] rfl ?_
              have e : m = k := by omega
              subst e
              refine w_iinc F (v := (nI (b + 1))) [(0, .ref h), (1, .int (nI row)), (2, .int (nI sum)), (3, .int (nI (b + 1)))] dX0_goBack_54 3 rfl (nI_add b 1) (by decide) rfl rfl ?_
              refine w_goto F 4 dX0_goBack_57 (by decide) ?_
              exact ih (b + 1) _ _ (by omega) (by omega) (GI_next hI2)
            · skip
              have b1 := hc k c2
              refine w_aload_n F dX0_goBack_23 0 rfl ?_
              refine w_get F 0 in_X0 rfl rfl 2 (by decide) q34 rfl dX0_goBack_24 ?_
              refine w_iload F dX0_goBack_27 4 rfl ?_
              refine w_iald F 1 rfl dX0_goBack_29 (by omega) (by omega) ?_
              refine w_iload_n F dX0_goBack_30 3 rfl ?_
              refine w_icmp_eq F 37 dX0_goBack_31 (by decide) (by omega) (by omega) (fun c3 => ?_) (fun c3 => ?_)
              · skip
                refine w_aload_n F dX0_goBack_37 0 rfl ?_
                refine w_get F 0 in_X0 rfl rfl 10 (by decide) q42 rfl dX0_goBack_38 ?_
                refine w_iload F dX0_goBack_41 4 rfl ?_
                refine w_iload_n F dX0_goBack_43 2 rfl ?_
                refine w_iast F 3 ([(h, .inr (0, [.ref ht, .int (nI z), .ref hcol, .ref hk, .int (nI m), .ref hs, .ref hb, .ref hr, .ref ho, .ref hn, .ref hl])), (hcol, ar dA 256 col), (hk, ar dA 256 kp0), (hl, ar dA 256 (upN lk k sum))]) rfl dX0_goBack_44 (by omega) (by omega) rfl ?_
                refine w_iinc F (v := (nI (sum + 1))) [(0, .ref h), (1, .int (nI row)), (2, .int (nI (sum + 1))), (3, .int (nI b)), (4, .int (nI k))] dX0_goBack_45 2 rfl (nI_add sum 1) (by decide) rfl rfl ?_
                refine w_iinc F (v := (nI (k + 1))) [(0, .ref h), (1, .int (nI row)), (2, .int (nI (sum + 1))), (3, .int (nI b)), (4, .int (nI (k + 1)))] dX0_goBack_48 4 rfl (nI_add k 1) (by decide) rfl rfl ?_
                refine w_goto F 14 dX0_goBack_51 (by decide) ?_
                exact ih2 (k + 1) (sum + 1) _ (by omega) (by omega) (GI_put hI2 c3)
              · skip
                refine w_goto F 48 dX0_goBack_34 (by decide) ?_
                refine w_iinc F (v := (nI (k + 1))) [(0, .ref h), (1, .int (nI row)), (2, .int (nI sum)), (3, .int (nI b)), (4, .int (nI (k + 1)))] dX0_goBack_48 4 rfl (nI_add k 1) (by decide) rfl rfl ?_
                refine w_goto F 14 dX0_goBack_51 (by decide) ?_
                exact ih2 (k + 1) sum _ (by omega) (by omega) (GI_skip hI2 c3)
        refine w_iconst F (nI 0) dX0_goBack_11 (by decide) ?_
        refine w_istore F [(0, .ref h), (1, .int (nI row)), (2, .int (nI sum)), (3, .int (nI b)), (4, .int (nI 0))] dX0_goBack_12 (by decide) rfl rfl ?_
        exact L14 (m + 1) 0 _ _ (by omega) (by omega) hI
  refine w_iconst F (nI 0) dX0_goBack_0 (by decide) ?_
  refine w_istore_n F [(0, .ref h), (1, .int (nI row)), (2, .int (nI 0))] dX0_goBack_1 (by decide) rfl rfl ?_
  refine w_iconst F (nI 0) dX0_goBack_2 (by decide) ?_
  refine w_istore_n F [(0, .ref h), (1, .int (nI row)), (2, .int (nI 0)), (3, .int (nI 0))] dX0_goBack_3 (by decide) rfl rfl ?_
  exact L4 257 0 0 _ (by omega) (by omega) ⟨by rw [cl_0]; rfl, fun j hj hb => by omega⟩
end
section
set_option maxHeartbeats 4000000 in
set_option maxRecDepth 100000 in
theorem met_before (l : Launch) (D : va_G) (dA : ClassId) (h ht hst hcol hk : Nat) (t : Nat → Nat) (z m p q : Nat) (hz1 : 1 ≤ z) (hz : z ≤ 256) (hp : p < z) (hq : q < z) (hT : ∀ i, t i < 256) :
    CTI l D dA yX2_before cX2_before 6 .boolean ({ frames := 0, cells := 0, slots := 0, locals := 0 } : Room) [.ref h, .int (nI p), .int (nI q)] [(h, .inr (2, [.ref ht, .ref hst, .ref hcol, .ref hk, .int (nI z), .int (nI m)])), (ht, ar dA 256 t)] (S := Unit) (fun (r : Int32) _ => (r = nI 1 ∧ lexLt (wd t z) p q) ∨ (r = nI 0 ∧ ¬ lexLt (wd t z) p q)) (fun _ => [(h, .inr (2, [.ref ht, .ref hst, .ref hcol, .ref hk, .int (nI z), .int (nI m)])), (ht, ar dA 256 t)]) := by
  refine CTI.intro (by decide) (Nat.le_of_ble_eq_true rfl) ?_
  intro M A F
  have F : FX M l D dA A cX2_before 6 RX2 (some .boolean) ({ frames := 0, cells := 0, slots := 0, locals := 0 } : Room) := F
  generalize hQ : QI M D dA A _ _ _ = Q
  show WW M D A 6 Q _ 0 0 0 [(0, .ref h), (1, .int (nI p)), (2, .int (nI q))] []
  have L2 : ∀ (n k : Nat), k ≤ z → z < k + n → (∀ s, s < k → wd t z (p + s) = wd t z (q + s)) → WW M D A 6 Q [(h, .inr (2, [.ref ht, .ref hst, .ref hcol, .ref hk, .int (nI z), .int (nI m)])), (ht, ar dA 256 t)] 0 0 2 [(0, .ref h), (1, .int (nI p)), (2, .int (nI q)), (3, .int (nI k))] [] := by
    intro n
    induction n with
    | zero => intro k gk gn hI; exfalso; omega
    | succ n ih =>
      intro k gk gn hI
      refine w_iload_n F dX2_before_2 3 rfl ?_
      refine w_aload_n F dX2_before_3 0 rfl ?_
      refine w_get F 0 in_X2 rfl rfl 4 (by decide) q143 rfl dX2_before_4 ?_
      refine w_icmp_ge F 66 dX2_before_7 (by decide) (by omega) (by omega) (fun c => ?_) (fun c => ?_)
      · skip
        have e : z = k := by omega
        subst e
        refine w_iconst F (nI 0) dX2_before_66 (by decide) ?_
        rw [← hQ]
        exact w_iret F dX2_before_67 rfl () (Or.inr ⟨rfl, before_end (by omega) hI⟩) [0, 1] rfl rfl (by decide) (by decide)
      · skip
        have b1 : (p + k) % z < z := Nat.mod_lt _ (by omega)
        have b2 : (q + k) % z < z := Nat.mod_lt _ (by omega)
        refine w_aload_n F dX2_before_10 0 rfl ?_
        refine w_get F 0 in_X2 rfl rfl 0 (by decide) q139 rfl dX2_before_11 ?_
        refine w_iload_n F dX2_before_14 1 rfl ?_
        refine w_iload_n F dX2_before_15 3 rfl ?_
        refine w_iadd F dX2_before_16 ?_
        refine w_aload_n F dX2_before_17 0 rfl ?_
        refine w_get F 0 in_X2 rfl rfl 4 (by decide) q143 rfl dX2_before_18 ?_
        refine w_irem F dX2_before_21 (by omega) (by omega) (by omega) ?_
        refine w_iald F 1 rfl dX2_before_22 (by omega) (by omega) ?_
        refine w_istore F [(0, .ref h), (1, .int (nI p)), (2, .int (nI q)), (3, .int (nI k)), (4, .int (nI (t ((p + k) % z))))] dX2_before_23 (by decide) rfl rfl ?_
        refine w_aload_n F dX2_before_25 0 rfl ?_
        refine w_get F 0 in_X2 rfl rfl 0 (by decide) q139 rfl dX2_before_26 ?_
        refine w_iload_n F dX2_before_29 2 rfl ?_
        refine w_iload_n F dX2_before_30 3 rfl ?_
        refine w_iadd F dX2_before_31 ?_
        refine w_aload_n F dX2_before_32 0 rfl ?_
        refine w_get F 0 in_X2 rfl rfl 4 (by decide) q143 rfl dX2_before_33 ?_
        refine w_irem F dX2_before_36 (by omega) (by omega) (by omega) ?_
        refine w_iald F 1 rfl dX2_before_37 (by omega) (by omega) ?_
        refine w_istore F [(0, .ref h), (1, .int (nI p)), (2, .int (nI q)), (3, .int (nI k)), (4, .int (nI (t ((p + k) % z)))), (5, .int (nI (t ((q + k) % z))))] dX2_before_38 (by decide) rfl rfl ?_
        refine w_iload F dX2_before_40 4 rfl ?_
        refine w_iload F dX2_before_42 5 rfl ?_
        refine w_icmp_eq F 60 dX2_before_44 (by decide) (lt256 (hT _)) (lt256 (hT _)) (fun c2 => ?_) (fun c2 => ?_)
        · skip
          refine w_iinc F (v := (nI (k + 1))) [(0, .ref h), (1, .int (nI p)), (2, .int (nI q)), (3, .int (nI (k + 1))), (4, .int (nI (t ((p + k) % z)))), (5, .int (nI (t ((q + k) % z))))] dX2_before_60 3 rfl (nI_add k 1) (by decide) rfl rfl ?_
          refine w_goto F 2 dX2_before_63 (by decide) ?_
          refine w_lsub [0, 1, 2, 3] rfl ?_
          refine ih (k + 1) (by omega) (by omega) (fun s hs => ?_)
          by_cases e : s = k
          · rw [e]; exact c2
          · exact hI s (by omega)
        · skip
          refine w_iload F dX2_before_47 4 rfl ?_
          refine w_iload F dX2_before_49 5 rfl ?_
          refine w_icmp_ge F 58 dX2_before_51 (by decide) (lt256 (hT _)) (lt256 (hT _)) (fun c3 => ?_) (fun c3 => ?_)
          · skip
            refine w_iconst F (nI 0) dX2_before_58 (by decide) ?_
            rw [← hQ]
            exact w_iret F dX2_before_59 rfl () (Or.inr ⟨rfl, fun g => lex_asym g ⟨k, fun s hs => (hI s hs).symm, show t ((q + k) % z) < t ((p + k) % z) by omega⟩⟩) [0, 1] rfl rfl (by decide) (by decide)
          · skip
            refine w_iconst F (nI 1) dX2_before_54 (by decide) ?_
            refine w_goto F 59 dX2_before_55 (by decide) ?_
            rw [← hQ]
            exact w_iret F dX2_before_59 rfl () (Or.inl ⟨rfl, k, hI, c3⟩) [0, 1] rfl rfl (by decide) (by decide)
  refine w_iconst F (nI 0) dX2_before_0 (by decide) ?_
  refine w_istore_n F [(0, .ref h), (1, .int (nI p)), (2, .int (nI q)), (3, .int (nI 0))] dX2_before_1 (by decide) rfl rfl ?_
  exact L2 (z + 1) 0 (by omega) (by omega) (fun s hs => absurd hs (Nat.not_lt_zero s))
/-- what a turn answers and leaves: column, text kept, how long -/
def turnPost (t : Nat → Nat) (z m : Nat) (col kp : Nat → Nat) (r : Int32) (col' kp' : Nat → Nat) (m' : Nat) : Prop := (z < 2 ∧ r = nI 0 ∧ col' = col ∧ kp' = kp ∧ m' = m) ∨ (2 ≤ z ∧ r = nI 1 ∧ m' = z ∧ (∃ st, BW (wd t z) z st col') ∧ ∀ j, j < z → kp' j = t j)
set_option maxHeartbeats 4000000 in
set_option maxRecDepth 100000 in
theorem met_X2_turn (l : Launch) (D : va_G) (dA : ClassId) (h ht hst hcol hk : Nat) (t g0 col0 kp0 : Nat → Nat) (z m : Nat) (hz : z ≤ 256) (hT : ∀ i, t i < 256) :
    CTI l D dA yX2_turn cX2_turn 3 .boolean ({ frames := 1, cells := 0, slots := 0, locals := 25 } : Room) [.ref h] [(h, .inr (2, [.ref ht, .ref hst, .ref hcol, .ref hk, .int (nI z), .int (nI m)])), (ht, ar dA 256 t), (hst, ar dA 256 g0), (hcol, ar dA 256 col0), (hk, ar dA 256 kp0)] (S := ((Nat → Nat) × (Nat → Nat) × (Nat → Nat) × Nat)) (fun (r : Int32) u => turnPost t z m col0 kp0 r u.2.1 u.2.2.1 u.2.2.2) (fun u => [(h, .inr (2, [.ref ht, .ref hst, .ref hcol, .ref hk, .int (nI z), .int (nI u.2.2.2)])), (ht, ar dA 256 t), (hst, ar dA 256 u.1), (hcol, ar dA 256 u.2.1), (hk, ar dA 256 u.2.2.1)]) := by
  refine CTI.intro (by decide) (Nat.le_of_ble_eq_true rfl) ?_
  intro M A F
  have F : FX M l D dA A cX2_turn 3 RX2 (some .boolean) ({ frames := 1, cells := 0, slots := 0, locals := 25 } : Room) := F
  generalize hQ : QI M D dA A _ _ _ = Q
  show WW M D A 3 Q _ 0 0 0 [(0, .ref h)] []
  have J76 : ∀ (st : Nat → Nat), 2 ≤ z → IS (wd t z) z st → WW M D A 3 Q [(h, .inr (2, [.ref ht, .ref hst, .ref hcol, .ref hk, .int (nI z), .int (nI m)])), (ht, ar dA 256 t), (hst, ar dA 256 st), (hcol, ar dA 256 col0), (hk, ar dA 256 kp0)] 0 0 76 [(0, .ref h)] [] := by
    intro st hz2 hS
    have L78 : ∀ (n i : Nat) (col kp : Nat → Nat), i ≤ z → z < i + n → (∀ a, a < i → col a = wd t z (st a + z - 1)) → (∀ a, a < i → kp a = t a) → WW M D A 3 Q [(h, .inr (2, [.ref ht, .ref hst, .ref hcol, .ref hk, .int (nI z), .int (nI m)])), (ht, ar dA 256 t), (hst, ar dA 256 st), (hcol, ar dA 256 col), (hk, ar dA 256 kp)] 0 0 78 [(0, .ref h), (1, .int (nI i))] [] := by
      intro n
      induction n with
      | zero => intro i col kp gi gn h1 h2; exfalso; omega
      | succ n ih =>
        intro i col kp gi gn h1 h2
        refine w_iload_n F dX2_turn_78 1 rfl ?_
        refine w_aload_n F dX2_turn_79 0 rfl ?_
        refine w_get F 0 in_X2 rfl rfl 4 (by decide) q143 rfl dX2_turn_80 ?_
        refine w_icmp_ge F 133 dX2_turn_83 (by decide) (by omega) (by omega) (fun c => ?_) (fun c => ?_)
        · skip
          have e : z = i := by omega
          subst e
          refine w_lsub [0] rfl ?_
          refine w_aload_n F dX2_turn_133 0 rfl ?_
          refine w_aload_n F dX2_turn_134 0 rfl ?_
          refine w_get F 0 in_X2 rfl rfl 4 (by decide) q143 rfl dX2_turn_135 ?_
          refine w_put F 0 ([(h, .inr (2, [.ref ht, .ref hst, .ref hcol, .ref hk, .int (nI z), .int (nI z)])), (ht, ar dA 256 t), (hst, ar dA 256 st), (hcol, ar dA 256 col), (hk, ar dA 256 kp)]) in_X2 tyX2 tyX2_ok nmX2 rfl rfl 5 (by decide) q144 rfl (tyX2_ok 5 (by decide)) rfl rfl (Nat.le_of_ble_eq_true rfl) dX2_turn_138 rfl ?_
          refine w_iconst F (nI 1) dX2_turn_141 (by decide) ?_
          rw [← hQ]
          exact w_iret F dX2_turn_142 rfl (st, col, kp, z) (Or.inr ⟨hz2, rfl, rfl, ⟨st, hS.1, hS.2.1, hS.2.2, h1⟩, h2⟩) [0, 1, 2, 3, 4] rfl rfl (by decide) (by decide)
        · skip
          have b1 := hS.1 i c
          have b2 : (st i + z - 1) % z < z := Nat.mod_lt _ (by omega)
          refine w_aload_n F dX2_turn_86 0 rfl ?_
          refine w_get F 0 in_X2 rfl rfl 2 (by decide) q141 rfl dX2_turn_87 ?_
          refine w_iload_n F dX2_turn_90 1 rfl ?_
          refine w_aload_n F dX2_turn_91 0 rfl ?_
          refine w_get F 0 in_X2 rfl rfl 0 (by decide) q139 rfl dX2_turn_92 ?_
          refine w_aload_n F dX2_turn_95 0 rfl ?_
          refine w_get F 0 in_X2 rfl rfl 1 (by decide) q140 rfl dX2_turn_96 ?_
          refine w_iload_n F dX2_turn_99 1 rfl ?_
          refine w_iald F 2 rfl dX2_turn_100 (by omega) (by omega) ?_
          refine w_aload_n F dX2_turn_101 0 rfl ?_
          refine w_get F 0 in_X2 rfl rfl 4 (by decide) q143 rfl dX2_turn_102 ?_
          refine w_iadd F dX2_turn_105 ?_
          refine w_iconst F (nI 1) dX2_turn_106 (by decide) ?_
          refine w_isub F dX2_turn_107 (by omega) ?_
          refine w_aload_n F dX2_turn_108 0 rfl ?_
          refine w_get F 0 in_X2 rfl rfl 4 (by decide) q143 rfl dX2_turn_109 ?_
          refine w_irem F dX2_turn_112 (by omega) (by omega) (by omega) ?_
          refine w_iald F 1 rfl dX2_turn_113 (by omega) (by omega) ?_
          refine w_iast F 3 ([(h, .inr (2, [.ref ht, .ref hst, .ref hcol, .ref hk, .int (nI z), .int (nI m)])), (ht, ar dA 256 t), (hst, ar dA 256 st), (hcol, ar dA 256 (upN col i (t ((((st i) + z) - 1) % z)))), (hk, ar dA 256 kp)]) rfl dX2_turn_114 (by omega) (by omega) rfl ?_
          refine w_aload_n F dX2_turn_115 0 rfl ?_
          refine w_get F 0 in_X2 rfl rfl 3 (by decide) q142 rfl dX2_turn_116 ?_
          refine w_iload_n F dX2_turn_119 1 rfl ?_
          refine w_aload_n F dX2_turn_120 0 rfl ?_
          refine w_get F 0 in_X2 rfl rfl 0 (by decide) q139 rfl dX2_turn_121 ?_
          refine w_iload_n F dX2_turn_124 1 rfl ?_
          refine w_iald F 1 rfl dX2_turn_125 (by omega) (by omega) ?_
          refine w_iast F 4 ([(h, .inr (2, [.ref ht, .ref hst, .ref hcol, .ref hk, .int (nI z), .int (nI m)])), (ht, ar dA 256 t), (hst, ar dA 256 st), (hcol, ar dA 256 (upN col i (t ((((st i) + z) - 1) % z)))), (hk, ar dA 256 (upN kp i (t i)))]) rfl dX2_turn_126 (by omega) (by omega) rfl ?_
          refine w_iinc F (v := (nI (i + 1))) [(0, .ref h), (1, .int (nI (i + 1)))] dX2_turn_127 1 rfl (nI_add i 1) (by decide) rfl rfl ?_
          refine w_goto F 78 dX2_turn_130 (by decide) ?_
          refine ih (i + 1) _ _ (by omega) (by omega) (fun a ha => ?_) (fun a ha => ?_)
          · by_cases e : a = i
            · rw [e, upN_same]; rfl
            · rw [upN_ne e]; exact h1 a (by omega)
          · by_cases e : a = i
            · rw [e, upN_same]
            · rw [upN_ne e]; exact h2 a (by omega)
    refine w_iconst F (nI 0) dX2_turn_76 (by decide) ?_
    refine w_istore_n F [(0, .ref h), (1, .int (nI 0))] dX2_turn_77 (by decide) rfl rfl ?_
    exact L78 (z + 1) 0 _ _ (by omega) (by omega) (fun a ha => absurd ha (Nat.not_lt_zero a)) (fun a ha => absurd ha (Nat.not_lt_zero a))
  have L12 : ∀ (n i : Nat) (g : Nat → Nat), 2 ≤ z → i ≤ z → z < i + n → IS (wd t z) i g → WW M D A 3 Q [(h, .inr (2, [.ref ht, .ref hst, .ref hcol, .ref hk, .int (nI z), .int (nI m)])), (ht, ar dA 256 t), (hst, ar dA 256 g), (hcol, ar dA 256 col0), (hk, ar dA 256 kp0)] 0 0 12 [(0, .ref h), (1, .int (nI i))] [] := by
    intro n
    induction n with
    | zero => intro i g hz2 gi gn hS; exfalso; omega
    | succ n ih =>
      intro i g hz2 gi gn hS
      refine w_iload_n F dX2_turn_12 1 rfl ?_
      refine w_aload_n F dX2_turn_13 0 rfl ?_
      refine w_get F 0 in_X2 rfl rfl 4 (by decide) q143 rfl dX2_turn_14 ?_
      refine w_icmp_ge F 76 dX2_turn_17 (by decide) (by omega) (by omega) (fun c => ?_) (fun c => ?_)
      · skip
        have e : z = i := by omega
        subst e
        refine w_lsub [0] rfl ?_
        exact J76 g hz2 hS
      · skip
        have J63 : ∀ (j : Nat) (g1 : Nat → Nat), IJ (wd t z) i g j g1 → (0 < j → ¬ lexLt (wd t z) i (g1 (j - 1))) → WW M D A 3 Q [(h, .inr (2, [.ref ht, .ref hst, .ref hcol, .ref hk, .int (nI z), .int (nI m)])), (ht, ar dA 256 t), (hst, ar dA 256 g1), (hcol, ar dA 256 col0), (hk, ar dA 256 kp0)] 0 0 63 [(0, .ref h), (1, .int (nI i)), (2, .int (nI j))] [] := by
          intro j g1 hJ hl
          have b1 := hJ.1
          refine w_aload_n F dX2_turn_63 0 rfl ?_
          refine w_get F 0 in_X2 rfl rfl 1 (by decide) q140 rfl dX2_turn_64 ?_
          refine w_iload_n F dX2_turn_67 2 rfl ?_
          refine w_iload_n F dX2_turn_68 1 rfl ?_
          refine w_iast F 2 ([(h, .inr (2, [.ref ht, .ref hst, .ref hcol, .ref hk, .int (nI z), .int (nI m)])), (ht, ar dA 256 t), (hst, ar dA 256 (upN g1 j i)), (hcol, ar dA 256 col0), (hk, ar dA 256 kp0)]) rfl dX2_turn_69 (by omega) (by omega) rfl ?_
          refine w_iinc F (v := (nI (i + 1))) [(0, .ref h), (1, .int (nI (i + 1))), (2, .int (nI j))] dX2_turn_70 1 rfl (nI_add i 1) (by decide) rfl rfl ?_
          refine w_goto F 12 dX2_turn_73 (by decide) ?_
          refine w_lsub [0, 1] rfl ?_
          exact ih (i + 1) _ hz2 (by omega) (by omega) (IJ_end hS hJ hl)
        have L22 : ∀ (n2 j : Nat) (g1 : Nat → Nat), j < n2 → IJ (wd t z) i g j g1 → WW M D A 3 Q [(h, .inr (2, [.ref ht, .ref hst, .ref hcol, .ref hk, .int (nI z), .int (nI m)])), (ht, ar dA 256 t), (hst, ar dA 256 g1), (hcol, ar dA 256 col0), (hk, ar dA 256 kp0)] 0 0 22 [(0, .ref h), (1, .int (nI i)), (2, .int (nI j))] [] := by
          intro n2
          induction n2 with
          | zero => intro j g1 gj hJ; exfalso; omega
          | succ n2 ih2 =>
            intro j g1 gj hJ
            have b1 := hJ.1
            refine w_iload_n F dX2_turn_22 2 rfl ?_
            refine w_if_le F 63 dX2_turn_23 (by decide) (by omega) (fun c2 => ?_) (fun c2 => ?_)
            · skip
              exact J63 j g1 hJ (fun z => by omega)
            · skip
              have b2 := hJ.2.1 (j - 1) (by omega)
              have b3 := hS.1 (j - 1) (by omega)
              refine w_aload_n F dX2_turn_26 0 rfl ?_
              refine w_iload_n F dX2_turn_27 1 rfl ?_
              refine w_aload_n F dX2_turn_28 0 rfl ?_
              refine w_get F 0 in_X2 rfl rfl 1 (by decide) q140 rfl dX2_turn_29 ?_
              refine w_iload_n F dX2_turn_32 2 rfl ?_
              refine w_iconst F (nI 1) dX2_turn_33 (by decide) ?_
              refine w_isub F dX2_turn_34 (by omega) ?_
              refine w_iald F 2 rfl dX2_turn_35 (by omega) (by omega) ?_
              refine w_callVI F (wr := [(hst, ar dA 256 g1), (hcol, ar dA 256 col0), (hk, ar dA 256 kp0)]) (q0 := 0) (met_before l D dA h ht hst hcol hk t z m i (g1 (j - 1)) (by omega) hz (by omega) (by rw [b2]; omega) hT) [0, 1] [2, 3, 4] ⟨rfl, by decide, rfl, by decide, by decide⟩ [3, 4, 0, 1, 2] (fun _ => [(h, .inr (2, [.ref ht, .ref hst, .ref hcol, .ref hk, .int (nI z), .int (nI m)])), (ht, ar dA 256 t), (hst, ar dA 256 g1), (hcol, ar dA 256 col0), (hk, ar dA 256 kp0)]) (fun _ => rfl) (by decide) q171 q173 qs7 q11 q174 nam_X2_before rfl rfl rfl (by decide) (by decide) (by decide) (by decide) rfl (Nat.le_of_ble_eq_true rfl) dX2_turn_36 (fun r0 u0 hp0 => ?_)
              rcases hp0 with ⟨rfl, hp0⟩ | ⟨rfl, hp0⟩
              · skip
                refine w_if_eq F 63 dX2_turn_39 (by decide) (by omega) (fun c3 => ?_) (fun c3 => ?_)
                · skip
                  exact absurd c3 (by decide)
                · skip
                  refine w_aload_n F dX2_turn_42 0 rfl ?_
                  refine w_get F 0 in_X2 rfl rfl 1 (by decide) q140 rfl dX2_turn_43 ?_
                  refine w_iload_n F dX2_turn_46 2 rfl ?_
                  refine w_aload_n F dX2_turn_47 0 rfl ?_
                  refine w_get F 0 in_X2 rfl rfl 1 (by decide) q140 rfl dX2_turn_48 ?_
                  refine w_iload_n F dX2_turn_51 2 rfl ?_
                  refine w_iconst F (nI 1) dX2_turn_52 (by decide) ?_
                  refine w_isub F dX2_turn_53 (by omega) ?_
                  refine w_iald F 2 rfl dX2_turn_54 (by omega) (by omega) ?_
                  refine w_iast F 2 ([(h, .inr (2, [.ref ht, .ref hst, .ref hcol, .ref hk, .int (nI z), .int (nI m)])), (ht, ar dA 256 t), (hst, ar dA 256 (upN g1 j (g1 (j - 1)))), (hcol, ar dA 256 col0), (hk, ar dA 256 kp0)]) rfl dX2_turn_55 (by omega) (by omega) rfl ?_
                  refine w_iload_n F dX2_turn_56 2 rfl ?_
                  refine w_iconst F (nI 1) dX2_turn_57 (by decide) ?_
                  refine w_isub F dX2_turn_58 (by omega) ?_
                  refine w_istore_n F [(0, .ref h), (1, .int (nI i)), (2, .int (nI (j - 1)))] dX2_turn_59 (by decide) rfl rfl ?_
                  refine w_goto F 22 dX2_turn_60 (by decide) ?_
                  exact ih2 (j - 1) _ (by omega) (IJ_step hJ c2 hp0)
              · skip
                refine w_if_eq F 63 dX2_turn_39 (by decide) (by omega) (fun c3 => ?_) (fun c3 => ?_)
                · skip
                  exact J63 j g1 hJ (fun _ => hp0)
                · skip
                  exact absurd rfl c3
        refine w_iload_n F dX2_turn_20 1 rfl ?_
        refine w_istore_n F [(0, .ref h), (1, .int (nI i)), (2, .int (nI i))] dX2_turn_21 (by decide) rfl rfl ?_
        exact L22 (i + 1) i g (by omega) IJ_0
  refine w_aload_n F dX2_turn_0 0 rfl ?_
  refine w_get F 0 in_X2 rfl rfl 4 (by decide) q143 rfl dX2_turn_1 ?_
  refine w_iconst F (nI 2) dX2_turn_4 (by decide) ?_
  refine w_icmp_ge F 10 dX2_turn_5 (by decide) (by omega) (by omega) (fun c0 => ?_) (fun c0 => ?_)
  · skip
    refine w_iconst F (nI 0) dX2_turn_10 (by decide) ?_
    refine w_istore_n F [(0, .ref h), (1, .int (nI 0))] dX2_turn_11 (by decide) rfl rfl ?_
    exact L12 (z + 1) 0 _ c0 (by omega) (by omega) ⟨fun a ha => absurd ha (Nat.not_lt_zero a), fun a b ha => absurd ha (Nat.not_lt_zero a), fun a b _ hb => absurd hb (Nat.not_lt_zero b)⟩
  · skip
    refine w_iconst F (nI 0) dX2_turn_8 (by decide) ?_
    rw [← hQ]
    exact w_iret F dX2_turn_9 rfl (g0, col0, kp0, m) (Or.inl ⟨c0, rfl, rfl, rfl, rfl⟩) [0, 1, 2, 3, 4] rfl rfl (by decide) (by decide)
end
section
theorem mod_inj {p f x y : Nat} (hx : x < p) (hy : y < p) (e : (x + f) % p = (y + f) % p) : x = y := by
  have hp : 0 < p := by omega
  have hfl : f % p < p := Nat.mod_lt _ hp
  have g1 : ∀ w, w < p → (w + f) % p = if w + f % p < p then w + f % p else w + f % p - p := by
    intro w hw
    rw [← Nat.add_mod_mod]
    by_cases c : w + f % p < p
    · rw [if_pos c, Nat.mod_eq_of_lt c]
    · rw [if_neg c, Nat.mod_eq_sub_mod (by omega), Nat.mod_eq_of_lt (by omega)]
  rw [g1 x hx, g1 y hy] at e
  split at e <;> split at e <;> omega
theorem back_ok {t col st : Nat → Nat} {z : Nat} (hz : 0 < z) (h : BW (wd t z) z st col) (k x : Nat) (hk : k < z) (hx : x < z) (hJ : ∀ s, wd t z (st x + s) = wd t z (k + 1 + s)) : col x = t k ∧ ∀ s, wd t z (st (pos col z x) + s) = wd t z (k + s) := by
  constructor
  · rw [h.2.2.2 x hx, Nat.add_sub_assoc (by omega), hJ (z - 1), show k + 1 + (z - 1) = k + z by omega, wd_per]
    unfold wd
    rw [Nat.mod_eq_of_lt hk]
  · intro s
    have := hJ (z - 1 + s)
    rw [BW_back hz (wd_per t z) h hx s, show st x + z - 1 + s = st x + (z - 1 + s) by omega, this, show k + 1 + (z - 1 + s) = k + s + z by omega, wd_per]
/-- the column so far -/
def CI (t ord : Nat → Nat) (f p τ c : Nat) (col : Nat → Nat) : Prop := ∀ r, r < c → col r = t (((ord (r / τ) + f) % p + p - 1) % p)
theorem CI_step {t ord col : Nat → Nat} {f p τ k s : Nat} (h : CI t ord f p τ (k * τ + s) col) (hs : s < τ) : CI t ord f p τ (k * τ + s + 1) (upN col (k * τ + s) (t (((ord k + f) % p + p - 1) % p))) := by
  intro r hr
  by_cases e : r = k * τ + s
  · have hd : r / τ = k := by
      rw [e, Nat.add_comm, Nat.add_mul_div_right s k (by omega), Nat.div_eq_of_lt hs, Nat.zero_add]
    rw [hd, e, upN_same]
  · rw [upN_ne e]; exact h r (by omega)
/-- where the text itself stands -/
def FR (ord : Nat → Nat) (f p τ k fi : Nat) : Prop := ∀ a, a < k → (ord a + f) % p = 0 → fi = a * τ
theorem FR_set {ord : Nat → Nat} {f p τ k fi : Nat} (ho : ∀ a, a < p → ord a < p) (hi : ∀ a b, a < p → b < p → ord a = ord b → a = b) (hk : k < p) (h0 : (ord k + f) % p = 0) : FR ord f p τ (k + 1) (k * τ) := by
  intro a ha h1
  have e := hi a k (by omega) hk (mod_inj (ho a (by omega)) (ho k hk) (h1.trans h0.symm))
  rw [e]
theorem FR_no {ord : Nat → Nat} {f p τ k fi : Nat} (h : FR ord f p τ k fi) (h0 : (ord k + f) % p ≠ 0) : FR ord f p τ (k + 1) fi := by
  intro a ha h1
  by_cases e : a = k
  · rw [e] at h1; exact absurd h1 h0
  · exact h a (by omega) h1
theorem FR_ex {ord : Nat → Nat} {f p : Nat} (hf : f < p) (ho : ∀ a, a < p → ord a < p) (hi : ∀ a b, a < p → b < p → ord a = ord b → a = b) : ∃ a, a < p ∧ (ord a + f) % p = 0 := by
  rcases Nat.eq_zero_or_pos f with e | e
  · obtain ⟨a, h1, h2⟩ := rs_surj ho hi 0 (by omega)
    exact ⟨a, h1, by rw [h2, e]; exact Nat.zero_mod p⟩
  · obtain ⟨a, h1, h2⟩ := rs_surj ho hi (p - f) (by omega)
    exact ⟨a, h1, by rw [h2, show p - f + f = p by omega]; exact Nat.mod_self p⟩
theorem turn_end {t ord col : Nat → Nat} {f p τ z fi : Nat} (hp : 0 < p) (hτ : 0 < τ) (hz : z = p * τ) (hf : f < p) (hT : ∀ i, i < z → t i = t (i % p)) (ho : ∀ a, a < p → ord a < p) (hi : ∀ a b, a < p → b < p → ord a = ord b → a = b) (hs : ∀ a b, a < b → b < p → lexLe (wd t p) (ord a + f) (ord b + f)) (hc : CI t ord f p τ z col) (hF : FR ord f p τ p fi) : ∃ st, BW (wd t z) z st col ∧ fi < z ∧ ∀ s, wd t z (st fi + s) = wd t z (z + s) := by
  refine ⟨_, BW_root hp hτ hz hT ho hi hs hc, ?_, fun s => ?_⟩
  · obtain ⟨a, h1, h2⟩ := FR_ex hf ho hi
    rw [hF a h1 h2, hz]
    exact Nat.mul_lt_mul_of_pos_right h1 hτ
  · obtain ⟨a, h1, h2⟩ := FR_ex hf ho hi
    have e1 : fi / τ = a := by rw [hF a h1 h2]; exact Nat.mul_div_cancel a hτ
    have e2 : fi % τ = 0 := by rw [hF a h1 h2]; exact Nat.mul_mod_left a τ
    show wd t z ((ord (fi / τ) + f) % p + fi % τ * p + s) = wd t z (z + s)
    rw [e1, e2, h2, Nat.zero_mul, Nat.add_comm z s, wd_per, Nat.add_zero, Nat.zero_add]
set_option maxHeartbeats 4000000 in
set_option maxRecDepth 100000 in
theorem met_X0_turn (l : Launch) (D : va_G) (dA : ClassId) (h ht hcol hk hs hb hr ho hn hl hc : Nat) (t col0 kp0 cnt0 rt0 od0 nm0 lk0 : Nat → Nat) (bd0 : Nat → Int32) (z m : Nat) (hz : z ≤ 256) (hT : ∀ i, t i < 256) (hrb : ∀ i, rt0 i < 1000) :
    CTI l D dA yX0_turn cX0_turn 9 .boolean ({ frames := 260, cells := 1024, slots := 5120, locals := 9076 } : Room) [.ref h] [(h, .inr (0, [.ref ht, .int (nI z), .ref hcol, .ref hk, .int (nI m), .ref hs, .ref hb, .ref hr, .ref ho, .ref hn, .ref hl])), (ht, ar dA 256 t), (hcol, ar dA 256 col0), (hk, ar dA 256 kp0), (hs, .inr (1, [.ref hc])), (hc, ar dA 264 cnt0), (hb, ai dA 257 bd0), (hr, ar dA 260 rt0), (ho, ar dA 260 od0), (hn, ar dA 257 nm0), (hl, ar dA 256 lk0)] (S := ((Nat → Nat) × (Nat → Nat) × Nat × (Nat → Nat) × (Nat → Int32) × (Nat → Nat) × (Nat → Nat) × (Nat → Nat) × (Nat → Nat))) (fun (r : Int32) u => turnPost t z m col0 kp0 r u.1 u.2.1 u.2.2.1 ∧ ∀ i, u.2.2.2.2.2.1 i < 1000) (fun u => [(h, .inr (0, [.ref ht, .int (nI z), .ref hcol, .ref hk, .int (nI u.2.2.1), .ref hs, .ref hb, .ref hr, .ref ho, .ref hn, .ref hl])), (ht, ar dA 256 t), (hcol, ar dA 256 u.1), (hk, ar dA 256 u.2.1), (hs, .inr (1, [.ref hc])), (hc, ar dA 264 u.2.2.2.1), (hb, ai dA 257 u.2.2.2.2.1), (hr, ar dA 260 u.2.2.2.2.2.1), (ho, ar dA 260 u.2.2.2.2.2.2.1), (hn, ar dA 257 u.2.2.2.2.2.2.2.1), (hl, ar dA 256 u.2.2.2.2.2.2.2.2)]) := by
  refine CTI.intro (by decide) (Nat.le_of_ble_eq_true rfl) ?_
  intro M A F
  have F : FX M l D dA A cX0_turn 9 RX0 (some .boolean) ({ frames := 260, cells := 1024, slots := 5120, locals := 9076 } : Room) := F
  generalize hQ : QI M D dA A _ _ _ = Q
  show WW M D A 9 Q _ 0 0 0 [(0, .ref h)] []
  refine w_aload_n F dX0_turn_0 0 rfl ?_
  refine w_get F 0 in_X0 rfl rfl 1 (by decide) q33 rfl dX0_turn_1 ?_
  refine w_iconst F (nI 2) dX0_turn_4 (by decide) ?_
  refine w_icmp_ge F 10 dX0_turn_5 (by decide) (by omega) (by omega) (fun c0 => ?_) (fun c0 => ?_)
  · skip
    refine w_aload_n F dX0_turn_10 0 rfl ?_
    refine w_callVI F (wr := [(hcol, ar dA 256 col0), (hk, ar dA 256 kp0), (hs, .inr (1, [.ref hc])), (hc, ar dA 264 cnt0), (hr, ar dA 260 rt0), (ho, ar dA 260 od0), (hn, ar dA 257 nm0), (hl, ar dA 256 lk0)]) (q0 := 0) (met_period l D dA h ht hcol hk hs hb hr ho hn hl t bd0 z m (by omega) hz hT) [0, 1, 6] [2, 3, 4, 5, 7, 8, 9, 10] ⟨rfl, by decide, rfl, by decide, by decide⟩ [8, 9, 0, 1, 2, 3, 10, 4, 5, 6, 7] (fun u => [(h, .inr (0, [.ref ht, .int (nI z), .ref hcol, .ref hk, .int (nI m), .ref hs, .ref hb, .ref hr, .ref ho, .ref hn, .ref hl])), (ht, ar dA 256 t), (hcol, ar dA 256 col0), (hk, ar dA 256 kp0), (hs, .inr (1, [.ref hc])), (hc, ar dA 264 cnt0), (hb, ai dA 257 u), (hr, ar dA 260 rt0), (ho, ar dA 260 od0), (hn, ar dA 257 nm0), (hl, ar dA 256 lk0)]) (fun _ => rfl) (by decide) q82 q84 qs0 q9 q85 nam_X0_period rfl rfl rfl (by first | omega | (dsimp only; omega)) (by first | omega | (dsimp only; omega)) (by first | omega | (dsimp only; omega)) (by first | omega | (dsimp only; omega)) rfl (Nat.le_of_ble_eq_true rfl) dX0_turn_11 (fun r0 bd hp0 => ?_)
    obtain ⟨p, rfl, p1, p2, p3, p4⟩ := hp0
    refine w_istore_n F [(0, .ref h), (1, .int (nI p))] dX0_turn_14 (by decide) rfl rfl ?_
    refine w_aload_n F dX0_turn_15 0 rfl ?_
    refine w_iload_n F dX0_turn_16 1 rfl ?_
    refine w_callVI F (wr := [(hcol, ar dA 256 col0), (hk, ar dA 256 kp0), (hs, .inr (1, [.ref hc])), (hc, ar dA 264 cnt0), (hb, ai dA 257 bd), (hr, ar dA 260 rt0), (ho, ar dA 260 od0), (hn, ar dA 257 nm0), (hl, ar dA 256 lk0)]) (q0 := 0) (met_least l D dA h ht hcol hk hs hb hr ho hn hl t z m p p1 (by omega) hT) [0, 1] [2, 3, 4, 5, 6, 7, 8, 9, 10] ⟨rfl, by decide, rfl, by decide, by decide⟩ [9, 10, 0, 1, 2, 3, 4, 5, 6, 7, 8] (fun _ => [(h, .inr (0, [.ref ht, .int (nI z), .ref hcol, .ref hk, .int (nI m), .ref hs, .ref hb, .ref hr, .ref ho, .ref hn, .ref hl])), (ht, ar dA 256 t), (hcol, ar dA 256 col0), (hk, ar dA 256 kp0), (hs, .inr (1, [.ref hc])), (hc, ar dA 264 cnt0), (hb, ai dA 257 bd), (hr, ar dA 260 rt0), (ho, ar dA 260 od0), (hn, ar dA 257 nm0), (hl, ar dA 256 lk0)]) (fun _ => rfl) (by decide) q86 q88 qs1 q9 q89 nam_X0_least rfl rfl rfl (by first | omega | (dsimp only; omega)) (by first | omega | (dsimp only; omega)) (by first | omega | (dsimp only; omega)) (by first | omega | (dsimp only; omega)) rfl (Nat.le_of_ble_eq_true rfl) dX0_turn_17 (fun r0 u0 hp0 => ?_)
    obtain ⟨f, rfl, f1, f2⟩ := hp0
    refine w_istore_n F [(0, .ref h), (1, .int (nI p)), (2, .int (nI f))] dX0_turn_20 (by decide) rfl rfl ?_
    refine w_aload_n F dX0_turn_21 0 rfl ?_
    refine w_iload_n F dX0_turn_22 1 rfl ?_
    refine w_iload_n F dX0_turn_23 2 rfl ?_
    refine w_callVI F (wr := [(hcol, ar dA 256 col0), (hk, ar dA 256 kp0), (hs, .inr (1, [.ref hc])), (hc, ar dA 264 cnt0), (hb, ai dA 257 bd), (ho, ar dA 260 od0), (hl, ar dA 256 lk0)]) (q0 := 0) (met_name l D dA h ht hcol hk hs hb hr ho hn hl t rt0 nm0 z m p f p1 (by omega) f1 hT hrb) [0, 1, 7, 9] [2, 3, 4, 5, 6, 8, 10] ⟨rfl, by decide, rfl, by decide, by decide⟩ [7, 8, 0, 1, 2, 3, 4, 9, 5, 10, 6] (fun u => [(h, .inr (0, [.ref ht, .int (nI z), .ref hcol, .ref hk, .int (nI m), .ref hs, .ref hb, .ref hr, .ref ho, .ref hn, .ref hl])), (ht, ar dA 256 t), (hcol, ar dA 256 col0), (hk, ar dA 256 kp0), (hs, .inr (1, [.ref hc])), (hc, ar dA 264 cnt0), (hb, ai dA 257 bd), (hr, ar dA 260 u.1), (ho, ar dA 260 od0), (hn, ar dA 257 u.2), (hl, ar dA 256 lk0)]) (fun _ => rfl) (by decide) q90 q92 qs2 q9 q93 nam_X0_name rfl rfl rfl (by first | omega | (dsimp only; omega)) (by first | omega | (dsimp only; omega)) (by first | omega | (dsimp only; omega)) (by first | omega | (dsimp only; omega)) rfl (Nat.le_of_ble_eq_true rfl) dX0_turn_24 (fun r0 u0 hp0 => ?_)
    obtain ⟨rt, nm⟩ := u0
    obtain ⟨⟨most, rfl, hNP⟩, hrb2⟩ := hp0
    refine w_ws ([(h, .inr (0, [.ref ht, .int (nI z), .ref hcol, .ref hk, .int (nI m), .ref hs, .ref hb, .ref hr, .ref ho, .ref hn, .ref hl])), (ht, ar dA 256 t), (hcol, ar dA 256 col0), (hk, ar dA 256 kp0), (hs, .inr (1, [.ref hc])), (hc, ar dA 264 cnt0), (hb, ai dA 257 bd), (hr, ar dA 260 rt), (ho, ar dA 260 od0), (hn, ar dA 257 nm), (hl, ar dA 256 lk0)]) rfl ?_
    have hNP : NP t p f most rt := hNP
    have hrb2 : ∀ i, rt i < 1000 := hrb2
    obtain ⟨n1, n2, n3, n4, nmf, n5, n6, n7⟩ := id hNP
    have hrt : ∀ i, i < p → 1 ≤ rt i ∧ rt i ≤ most := fun i hi => by rw [n5 i hi]; exact n6 _ (Nat.mod_lt _ (by omega))
    refine w_istore_n F [(0, .ref h), (1, .int (nI p)), (2, .int (nI f)), (3, .int (nI most))] dX0_turn_27 (by decide) rfl rfl ?_
    refine w_aload_n F dX0_turn_28 0 rfl ?_
    refine w_get F 0 in_X0 rfl rfl 5 (by decide) q37 rfl dX0_turn_29 ?_
    refine w_aload_n F dX0_turn_32 0 rfl ?_
    refine w_get F 0 in_X0 rfl rfl 7 (by decide) q39 rfl dX0_turn_33 ?_
    refine w_aload_n F dX0_turn_36 0 rfl ?_
    refine w_get F 0 in_X0 rfl rfl 8 (by decide) q40 rfl dX0_turn_37 ?_
    refine w_iload_n F dX0_turn_40 1 rfl ?_
    refine w_iload_n F dX0_turn_41 3 rfl ?_
    refine w_callVV F (wr := [(h, .inr (0, [.ref ht, .int (nI z), .ref hcol, .ref hk, .int (nI m), .ref hs, .ref hb, .ref hr, .ref ho, .ref hn, .ref hl])), (ht, ar dA 256 t), (hcol, ar dA 256 col0), (hk, ar dA 256 kp0), (hb, ai dA 257 bd), (hn, ar dA 257 nm), (hl, ar dA 256 lk0)]) (q0 := 0) (met_sort l D dA p p (Nat.le_refl p) hs hc hr ho cnt0 rt od0 260 260 most p1 (by omega) (by omega) (by omega) (by omega) (by omega) (by omega) (fun i hi => (hrt i hi).1) (fun i hi => (hrt i hi).2) n2 n3 n4 hrb2) [4, 5, 7, 8] [0, 1, 2, 3, 6, 9, 10] ⟨rfl, by decide, rfl, by decide, by decide⟩ [0, 1, 2, 3, 7, 8, 4, 9, 10, 5, 6] (fun u => [(h, .inr (0, [.ref ht, .int (nI z), .ref hcol, .ref hk, .int (nI m), .ref hs, .ref hb, .ref hr, .ref ho, .ref hn, .ref hl])), (ht, ar dA 256 t), (hcol, ar dA 256 col0), (hk, ar dA 256 kp0), (hs, .inr (1, [.ref hc])), (hc, ar dA 264 u.1), (hb, ai dA 257 bd), (hr, ar dA 260 rt), (ho, ar dA 260 u.2), (hn, ar dA 257 nm), (hl, ar dA 256 lk0)]) (fun _ => rfl) (by decide) q94 q95 q96 q10 q97 nam_X1_sort rfl rfl rfl (by first | omega | (dsimp only; omega)) (by first | omega | (dsimp only; omega)) (by first | omega | (dsimp only; omega)) (by first | omega | (dsimp only; omega)) rfl (Nat.le_of_ble_eq_true rfl) dX0_turn_42 (fun u0 hp0 => ?_)
    obtain ⟨cnt, od⟩ := u0
    refine w_ws ([(h, .inr (0, [.ref ht, .int (nI z), .ref hcol, .ref hk, .int (nI m), .ref hs, .ref hb, .ref hr, .ref ho, .ref hn, .ref hl])), (ht, ar dA 256 t), (hcol, ar dA 256 col0), (hk, ar dA 256 kp0), (hs, .inr (1, [.ref hc])), (hc, ar dA 264 cnt), (hb, ai dA 257 bd), (hr, ar dA 260 rt), (ho, ar dA 260 od), (hn, ar dA 257 nm), (hl, ar dA 256 lk0)]) rfl ?_
    have hSA : SA p (zx p rt) od := hp0
    have hoi := SA_inj hSA
    have hNPz : NP t p f most (zx p rt) := ⟨n1, zx_hi (by omega), zx_hi (by omega), zx_hi (by omega), nmf, fun k hk => by rw [zx_lo hk]; exact n5 k hk, n6, n7⟩
    have hsort : ∀ a b, a < b → b < p → lexLe (wd t p) (od a + f) (od b + f) := fun a b hab hb => suf_rot (by omega) f2 hNPz (fun i hi => zx_hi hi) hSA hab hb
    refine w_widen (k := 1024) (n := 5120) (by first | omega | (dsimp only; omega)) (by first | omega | (dsimp only; omega)) ?_
    obtain ⟨τ, hτ⟩ : ∃ τ, τ = z / p := ⟨_, rfl⟩
    have hzp : z = p * τ := by have := Nat.div_add_mod z p; rw [p3, ← hτ] at this; omega
    have hτ0 : 0 < τ := by rcases Nat.eq_zero_or_pos τ with e | e; (rw [e, Nat.mul_zero] at hzp; omega); exact e
    have hτz : τ ≤ z := by rw [hτ]; exact Nat.div_le_self z p
    refine w_aload_n F dX0_turn_45 0 rfl ?_
    refine w_get F 0 in_X0 rfl rfl 1 (by decide) q33 rfl dX0_turn_46 ?_
    refine w_iload_n F dX0_turn_49 1 rfl ?_
    refine w_idiv F dX0_turn_50 (by omega) (by omega) (by omega) ?_
    refine w_top (y := (nI τ)) (by rw [hτ]) ?_
    refine w_istore F [(0, .ref h), (1, .int (nI p)), (2, .int (nI f)), (3, .int (nI most)), (4, .int (nI τ))] dX0_turn_51 (by decide) rfl rfl ?_
    refine w_iconst F (nI 0) dX0_turn_53 (by decide) ?_
    refine w_istore F [(0, .ref h), (1, .int (nI p)), (2, .int (nI f)), (3, .int (nI most)), (4, .int (nI τ)), (5, .int (nI 0))] dX0_turn_54 (by decide) rfl rfl ?_
    refine w_iconst F (nI 0) dX0_turn_56 (by decide) ?_
    refine w_istore F [(0, .ref h), (1, .int (nI p)), (2, .int (nI f)), (3, .int (nI most)), (4, .int (nI τ)), (5, .int (nI 0)), (6, .int (nI 0))] dX0_turn_57 (by decide) rfl rfl ?_
    have J138 : ∀ (fi : Nat) (col : Nat → Nat), CI t od f p τ z col → FR od f p τ p fi → WW M D A 9 Q [(h, .inr (0, [.ref ht, .int (nI z), .ref hcol, .ref hk, .int (nI m), .ref hs, .ref hb, .ref hr, .ref ho, .ref hn, .ref hl])), (ht, ar dA 256 t), (hcol, ar dA 256 col), (hk, ar dA 256 kp0), (hs, .inr (1, [.ref hc])), (hc, ar dA 264 cnt), (hb, ai dA 257 bd), (hr, ar dA 260 rt), (ho, ar dA 260 od), (hn, ar dA 257 nm), (hl, ar dA 256 lk0)] 1024 5120 138 [(0, .ref h), (1, .int (nI p)), (2, .int (nI f)), (3, .int (nI most)), (4, .int (nI τ)), (5, .int (nI fi))] [] := by
      intro fi col hC hF
      obtain ⟨st, hBW, g1, g2⟩ := turn_end (by omega) hτ0 hzp f1 p4 hSA.1 hoi hsort hC hF
      refine w_aload_n F dX0_turn_138 0 rfl ?_
      refine w_aload_n F dX0_turn_139 0 rfl ?_
      refine w_get F 0 in_X0 rfl rfl 1 (by decide) q33 rfl dX0_turn_140 ?_
      refine w_put F 0 ([(h, .inr (0, [.ref ht, .int (nI z), .ref hcol, .ref hk, .int (nI z), .ref hs, .ref hb, .ref hr, .ref ho, .ref hn, .ref hl])), (ht, ar dA 256 t), (hcol, ar dA 256 col), (hk, ar dA 256 kp0), (hs, .inr (1, [.ref hc])), (hc, ar dA 264 cnt), (hb, ai dA 257 bd), (hr, ar dA 260 rt), (ho, ar dA 260 od), (hn, ar dA 257 nm), (hl, ar dA 256 lk0)]) in_X0 tyX0 tyX0_ok nmX0 rfl rfl 4 (by decide) q36 rfl (tyX0_ok 4 (by decide)) rfl rfl (Nat.le_of_ble_eq_true rfl) dX0_turn_143 rfl ?_
      refine w_aload_n F dX0_turn_146 0 rfl ?_
      refine w_iload F dX0_turn_147 5 rfl ?_
      refine w_callVV F (wr := [(ht, ar dA 256 t), (hs, .inr (1, [.ref hc])), (hc, ar dA 264 cnt), (hb, ai dA 257 bd), (hr, ar dA 260 rt), (ho, ar dA 260 od), (hn, ar dA 257 nm)]) (q0 := 0) (met_goBack l D dA h ht hcol hk hs hb hr ho hn hl col kp0 lk0 t z z fi (by omega) hz (fun j hj => by rw [hC j hj]; exact hT _) (fun k x => ∀ s, wd t z (st x + s) = wd t z (k + s)) g1 g2 (fun k x hk hx hJ => back_ok (by omega) hBW k x hk hx hJ)) [0, 2, 3, 10] [1, 4, 5, 6, 7, 8, 9] ⟨rfl, by decide, rfl, by decide, by decide⟩ [7, 0, 8, 9, 1, 2, 3, 4, 5, 6, 10] (fun u => [(h, .inr (0, [.ref ht, .int (nI z), .ref hcol, .ref hk, .int (nI z), .ref hs, .ref hb, .ref hr, .ref ho, .ref hn, .ref hl])), (ht, ar dA 256 t), (hcol, ar dA 256 col), (hk, ar dA 256 u.1), (hs, .inr (1, [.ref hc])), (hc, ar dA 264 cnt), (hb, ai dA 257 bd), (hr, ar dA 260 rt), (ho, ar dA 260 od), (hn, ar dA 257 nm), (hl, ar dA 256 u.2)]) (fun _ => rfl) (by decide) q117 q119 qs6 q9 q120 nam_X0_goBack rfl rfl rfl (by first | omega | (dsimp only; omega)) (by first | omega | (dsimp only; omega)) (by first | omega | (dsimp only; omega)) (by first | omega | (dsimp only; omega)) rfl (Nat.le_of_ble_eq_true rfl) dX0_turn_149 (fun u0 hp0 => ?_)
      obtain ⟨kp, lk⟩ := u0
      refine w_ws ([(h, .inr (0, [.ref ht, .int (nI z), .ref hcol, .ref hk, .int (nI z), .ref hs, .ref hb, .ref hr, .ref ho, .ref hn, .ref hl])), (ht, ar dA 256 t), (hcol, ar dA 256 col), (hk, ar dA 256 kp), (hs, .inr (1, [.ref hc])), (hc, ar dA 264 cnt), (hb, ai dA 257 bd), (hr, ar dA 260 rt), (ho, ar dA 260 od), (hn, ar dA 257 nm), (hl, ar dA 256 lk)]) rfl ?_
      refine w_iconst F (nI 1) dX0_turn_152 (by decide) ?_
      rw [← hQ]
      exact w_iret F dX0_turn_153 rfl (col, kp, z, cnt, bd, rt, od, nm, lk) ⟨Or.inr ⟨c0, rfl, rfl, ⟨st, hBW⟩, hp0⟩, hrb2⟩ [0, 1, 2, 3, 4, 5, 6, 7, 8, 9, 10] rfl rfl (by first | omega | (dsimp only; omega)) (by first | omega | (dsimp only; omega))
    have L59 : ∀ (n k fi : Nat) (col : Nat → Nat), k ≤ p → p < k + n → fi < 10000 → CI t od f p τ (k * τ) col → FR od f p τ k fi → WW M D A 9 Q [(h, .inr (0, [.ref ht, .int (nI z), .ref hcol, .ref hk, .int (nI m), .ref hs, .ref hb, .ref hr, .ref ho, .ref hn, .ref hl])), (ht, ar dA 256 t), (hcol, ar dA 256 col), (hk, ar dA 256 kp0), (hs, .inr (1, [.ref hc])), (hc, ar dA 264 cnt), (hb, ai dA 257 bd), (hr, ar dA 260 rt), (ho, ar dA 260 od), (hn, ar dA 257 nm), (hl, ar dA 256 lk0)] 1024 5120 59 [(0, .ref h), (1, .int (nI p)), (2, .int (nI f)), (3, .int (nI most)), (4, .int (nI τ)), (5, .int (nI fi)), (6, .int (nI k))] [] := by
      intro n
      induction n with
      | zero => intro k fi col gk gn gf hC hF; exfalso; omega
      | succ n ih =>
        intro k fi col gk gn gf hC hF
        refine w_iload F dX0_turn_59 6 rfl ?_
        refine w_iload_n F dX0_turn_61 1 rfl ?_
        refine w_icmp_ge F 138 dX0_turn_62 (by decide) (by omega) (by omega) (fun c => ?_) (fun c => ?_)
        · skip
          have e : p = k := by omega
          subst e
          refine w_lsub [0, 1, 2, 3, 4, 5] rfl ?_
          exact J138 fi col (by rw [hzp]; exact hC) hF
        · skip
          have b1 := hSA.1 k c
          have b2 : (od k + f) % p < p := Nat.mod_lt _ (by omega)
          have b3 : ((od k + f) % p + p - 1) % p < p := Nat.mod_lt _ (by omega)
          have b4 : k * τ + τ ≤ z := by have := Nat.mul_le_mul_right τ (show k + 1 ≤ p from c); rw [Nat.succ_mul] at this; omega
          have J90 : ∀ (fi2 : Nat), fi2 < 10000 → FR od f p τ (k + 1) fi2 → WW M D A 9 Q [(h, .inr (0, [.ref ht, .int (nI z), .ref hcol, .ref hk, .int (nI m), .ref hs, .ref hb, .ref hr, .ref ho, .ref hn, .ref hl])), (ht, ar dA 256 t), (hcol, ar dA 256 col), (hk, ar dA 256 kp0), (hs, .inr (1, [.ref hc])), (hc, ar dA 264 cnt), (hb, ai dA 257 bd), (hr, ar dA 260 rt), (ho, ar dA 260 od), (hn, ar dA 257 nm), (hl, ar dA 256 lk0)] 1024 5120 90 [(0, .ref h), (1, .int (nI p)), (2, .int (nI f)), (3, .int (nI most)), (4, .int (nI τ)), (5, .int (nI fi2)), (6, .int (nI k)), (7, .int (nI ((od k + f) % p)))] [] := by
            intro fi2 gf2 hF2
            have L93 : ∀ (n2 s : Nat) (col1 : Nat → Nat), s ≤ τ → τ < s + n2 → CI t od f p τ (k * τ + s) col1 → WW M D A 9 Q [(h, .inr (0, [.ref ht, .int (nI z), .ref hcol, .ref hk, .int (nI m), .ref hs, .ref hb, .ref hr, .ref ho, .ref hn, .ref hl])), (ht, ar dA 256 t), (hcol, ar dA 256 col1), (hk, ar dA 256 kp0), (hs, .inr (1, [.ref hc])), (hc, ar dA 264 cnt), (hb, ai dA 257 bd), (hr, ar dA 260 rt), (ho, ar dA 260 od), (hn, ar dA 257 nm), (hl, ar dA 256 lk0)] 1024 5120 93 [(0, .ref h), (1, .int (nI p)), (2, .int (nI f)), (3, .int (nI most)), (4, .int (nI τ)), (5, .int (nI fi2)), (6, .int (nI k)), (7, .int (nI ((od k + f) % p))), (8, .int (nI s))] [] := by
              intro n2
              induction n2 with
              | zero => intro s col1 gs gn2 hC1; exfalso; omega
              | succ n2 ih2 =>
                intro s col1 gs gn2 hC1
                refine w_iload F dX0_turn_93 8 rfl ?_
                refine w_iload F dX0_turn_95 4 rfl ?_
                refine w_icmp_ge F 132 dX0_turn_97 (by decide) (by omega) (by omega) (fun c2 => ?_) (fun c2 => ?_)
                · skip
                  have e : τ = s := by omega
                  refine w_lsub [0, 1, 2, 3, 4, 5, 6] rfl ?_
                  refine w_iinc F (v := (nI (k + 1))) [(0, .ref h), (1, .int (nI p)), (2, .int (nI f)), (3, .int (nI most)), (4, .int (nI τ)), (5, .int (nI fi2)), (6, .int (nI (k + 1)))] dX0_turn_132 6 rfl (nI_add k 1) (by decide) rfl rfl ?_
                  refine w_goto F 59 dX0_turn_135 (by decide) ?_
                  exact ih (k + 1) fi2 _ (by omega) (by omega) gf2 (by rw [Nat.succ_mul]; rw [← e] at hC1; exact hC1) hF2
                · skip
                  refine w_aload_n F dX0_turn_100 0 rfl ?_
                  refine w_get F 0 in_X0 rfl rfl 2 (by decide) q34 rfl dX0_turn_101 ?_
                  refine w_iload F dX0_turn_104 6 rfl ?_
                  refine w_iload F dX0_turn_106 4 rfl ?_
                  refine w_imul F dX0_turn_108 ?_
                  refine w_iload F dX0_turn_109 8 rfl ?_
                  refine w_iadd F dX0_turn_111 ?_
                  refine w_aload_n F dX0_turn_112 0 rfl ?_
                  refine w_get F 0 in_X0 rfl rfl 0 (by decide) q32 rfl dX0_turn_113 ?_
                  refine w_iload F dX0_turn_116 7 rfl ?_
                  refine w_iload_n F dX0_turn_118 1 rfl ?_
                  refine w_iadd F dX0_turn_119 ?_
                  refine w_iconst F (nI 1) dX0_turn_120 (by decide) ?_
                  refine w_isub F dX0_turn_121 (by omega) ?_
                  refine w_iload_n F dX0_turn_122 1 rfl ?_
                  refine w_irem F dX0_turn_123 (by omega) (by omega) (by omega) ?_
                  refine w_iald F 1 rfl dX0_turn_124 (by omega) (by omega) ?_
                  refine w_iast F 2 ([(h, .inr (0, [.ref ht, .int (nI z), .ref hcol, .ref hk, .int (nI m), .ref hs, .ref hb, .ref hr, .ref ho, .ref hn, .ref hl])), (ht, ar dA 256 t), (hcol, ar dA 256 (upN col1 ((k * τ) + s) (t (((((od k + f) % p) + p) - 1) % p)))), (hk, ar dA 256 kp0), (hs, .inr (1, [.ref hc])), (hc, ar dA 264 cnt), (hb, ai dA 257 bd), (hr, ar dA 260 rt), (ho, ar dA 260 od), (hn, ar dA 257 nm), (hl, ar dA 256 lk0)]) rfl dX0_turn_125 (by omega) (by omega) rfl ?_
                  refine w_iinc F (v := (nI (s + 1))) [(0, .ref h), (1, .int (nI p)), (2, .int (nI f)), (3, .int (nI most)), (4, .int (nI τ)), (5, .int (nI fi2)), (6, .int (nI k)), (7, .int (nI ((od k + f) % p))), (8, .int (nI (s + 1)))] dX0_turn_126 8 rfl (nI_add s 1) (by decide) rfl rfl ?_
                  refine w_goto F 93 dX0_turn_129 (by decide) ?_
                  exact ih2 (s + 1) _ (by omega) (by omega) (CI_step hC1 c2)
            refine w_iconst F (nI 0) dX0_turn_90 (by decide) ?_
            refine w_istore F [(0, .ref h), (1, .int (nI p)), (2, .int (nI f)), (3, .int (nI most)), (4, .int (nI τ)), (5, .int (nI fi2)), (6, .int (nI k)), (7, .int (nI ((od k + f) % p))), (8, .int (nI 0))] dX0_turn_91 (by decide) rfl rfl ?_
            exact L93 (τ + 1) 0 _ (by omega) (by omega) hC
          refine w_aload_n F dX0_turn_65 0 rfl ?_
          refine w_get F 0 in_X0 rfl rfl 8 (by decide) q40 rfl dX0_turn_66 ?_
          refine w_iload F dX0_turn_69 6 rfl ?_
          refine w_iald F 8 rfl dX0_turn_71 (by omega) (by omega) ?_
          refine w_iload_n F dX0_turn_72 2 rfl ?_
          refine w_iadd F dX0_turn_73 ?_
          refine w_iload_n F dX0_turn_74 1 rfl ?_
          refine w_irem F dX0_turn_75 (by omega) (by omega) (by omega) ?_
          refine w_istore F [(0, .ref h), (1, .int (nI p)), (2, .int (nI f)), (3, .int (nI most)), (4, .int (nI τ)), (5, .int (nI fi)), (6, .int (nI k)), (7, .int (nI (((od k) + f) % p)))] dX0_turn_76 (by decide) rfl rfl ?_
          refine w_iload F dX0_turn_78 7 rfl ?_
          refine w_if_ne F 90 dX0_turn_80 (by decide) (by omega) (fun c2 => ?_) (fun c2 => ?_)
          · skip
            exact J90 fi gf (FR_no hF c2)
          · skip
            refine w_iload F dX0_turn_83 6 rfl ?_
            refine w_iload F dX0_turn_85 4 rfl ?_
            refine w_imul F dX0_turn_87 ?_
            refine w_istore F [(0, .ref h), (1, .int (nI p)), (2, .int (nI f)), (3, .int (nI most)), (4, .int (nI τ)), (5, .int (nI (k * τ))), (6, .int (nI k)), (7, .int (nI (((od k) + f) % p)))] dX0_turn_88 (by decide) rfl rfl ?_
            exact J90 (k * τ) (by omega) (FR_set hSA.1 hoi c c2 (fi := fi))
    exact L59 (p + 1) 0 0 _ (by omega) (by omega) (by omega) (fun r hr => by rw [Nat.zero_mul] at hr; omega) (fun a ha => absurd ha (Nat.not_lt_zero a))
  · skip
    refine w_iconst F (nI 0) dX0_turn_8 (by decide) ?_
    rw [← hQ]
    exact w_iret F dX0_turn_9 rfl (col0, kp0, m, cnt0, bd0, rt0, od0, nm0, lk0) ⟨Or.inl ⟨c0, rfl, rfl, rfl, rfl⟩, hrb⟩ [0, 1, 2, 3, 4, 5, 6, 7, 8, 9, 10] rfl rfl (by first | omega | (dsimp only; omega)) (by first | omega | (dsimp only; omega))
end
section
theorem w_new {M : MC} {l : Launch} {D : va_G} {dA : ClassId} {A : Nat → Prop} {cc : ByteArray} {nL : Nat} {own : String} {rt : Option FieldType} {rm : Room} {Q : State → Prop} {ws : va_W} {cells slots pc : Nat} {lv : List (Nat × Value)} {st : List Value} (F : FX M l D dA A cc nL own rt rm) {C : String} {T : u_T} {N ci index : Nat} (fs : List Value) (hin : ∀ w ∈ u_ws C T N, w ∈ lw_all) (ty : Nat → FieldType) (hty : ∀ k, k < N → parseFieldDescriptor (T k).2.2.1 = some (ty k)) (hcl : Cond.classLink own index C ∈ lw_all) (hinst : Cond.instantiable C N ∈ lw_all) (hini : Cond.initialized C ∈ lw_all) (hc : vwCl[ci]? = some (C, T, N)) (hfs : ∀ j, j < N → defaultValue (ty j) = vp_V fs j) (hcells : cells + 1 ≤ rm.cells) (hslots : slots + N ≤ rm.slots) (hdg : decode cc pc = .ok (.new index, 3)) (kk : ∀ q : Nat, WW M D A nL Q (ws ++ [(q, .inr (ci, fs))]) (cells + 1) (slots + N) (pc + 3) lv (.ref q :: st)) : WW M D A nL Q ws cells slots pc lv st := by
  intro H locs ls hP hD hS h
  have hR : mR M = rm := F.2.2.2.2.2.2.2.2.2.1
  exact va_new F.1 F.2.1 F.2.2.2.2.1 hin ty hty F.2.2.2.1 (F.2.2.2.2.1 _ hcl) (F.2.2.2.2.1 _ hinst) (F.2.2.2.2.1 _ hini) F.2.2.2.2.2.1 hP hD hS F.2.2.2.2.2.2.1 hc hfs (by rw [hR]; exact hcells) (by rw [hR]; exact hslots) hdg (fun q H1 hP1 hD1 hS1 => kk q H1 locs ls hP1 hD1 hS1 h)
theorem df_X1 : ∀ j, j < 1 → defaultValue (tyX1 j) = vp_V [.null] j := fun j hj => by
  rcases (show j = 0 by omega) with rfl
  rfl
theorem df_X0 : ∀ j, j < 11 → defaultValue (tyX0 j) = vp_V [.null, .int (nI 0), .null, .null, .int (nI 0), .null, .null, .null, .null, .null, .null] j := fun j hj => by
  rcases (show j = 0 ∨ j = 1 ∨ j = 2 ∨ j = 3 ∨ j = 4 ∨ j = 5 ∨ j = 6 ∨ j = 7 ∨ j = 8 ∨ j = 9 ∨ j = 10 by omega) with rfl | rfl | rfl | rfl | rfl | rfl | rfl | rfl | rfl | rfl | rfl <;> first | rfl | exact congrArg Value.int nI_0.symm
theorem df_X2 : ∀ j, j < 6 → defaultValue (tyX2 j) = vp_V [.null, .null, .null, .null, .int (nI 0), .int (nI 0)] j := fun j hj => by
  rcases (show j = 0 ∨ j = 1 ∨ j = 2 ∨ j = 3 ∨ j = 4 ∨ j = 5 by omega) with rfl | rfl | rfl | rfl | rfl | rfl <;> first | rfl | exact congrArg Value.int nI_0.symm
set_option maxHeartbeats 4000000 in
set_option maxRecDepth 100000 in
theorem met_X1_init (l : Launch) (D : va_G) (dA : ClassId) (hs : Nat) :
    CTV l D dA yX1_init cX1_init 1 ({ frames := 1, cells := 1, slots := 264, locals := 12 } : Room) [.ref hs] [(hs, .inr (1, [.null]))] (S := Nat) (fun _ => True) (fun u => [(hs, .inr (1, [.ref u])), (u, ar dA 264 (fun _ => 0))]) := by
  refine CTV.intro (by decide) (Nat.le_of_ble_eq_true rfl) ?_
  intro M A F hin
  have F : FX M l D dA A cX1_init 1 RX1 none ({ frames := 1, cells := 1, slots := 264, locals := 12 } : Room) := F
  generalize hQ : QV M D dA A _ _ _ = Q
  show WW M D A 1 Q _ 0 0 0 [(0, .ref hs)] []
  refine w_aload_n F dX1_init_0 0 rfl ?_
  refine w_objInit F q26 dX1_init_1 (by decide) (Nat.le_of_ble_eq_true rfl) ?_
  refine w_aload_n F dX1_init_4 0 rfl ?_
  refine w_sipush F (nI 264) dX1_init_5 (by decide) ?_
  refine w_newa F dX1_init_8 (by omega) (by decide) (by decide) (fun hc => ?_)
  refine w_ws ([(hs, .inr (1, [.null])), (hc, ar dA 264 (fun _ => 0))]) rfl ?_
  refine w_putF F hin 0 ([(hs, .inr (1, [.ref hc])), (hc, ar dA 264 (fun _ => 0))]) in_X1 tyX1 tyX1_ok nmX1 rfl rfl 0 (by decide) q27 rfl rfl (tyX1_ok 0 (by decide)) rfl rfl (Nat.le_of_ble_eq_true rfl) dX1_init_10 rfl ?_
  rw [← hQ]
  exact w_vret F dX1_init_13 hc trivial [0, 1] rfl rfl (by decide) (by decide)
set_option maxHeartbeats 4000000 in
set_option maxRecDepth 100000 in
theorem met_X2_init (l : Launch) (D : va_G) (dA : ClassId) (h : Nat) :
    CTV l D dA yX2_init cX2_init 1 ({ frames := 1, cells := 4, slots := 1024, locals := 12 } : Room) [.ref h] [(h, .inr (2, [.null, .null, .null, .null, .int (nI 0), .int (nI 0)]))] (S := (Nat × Nat × Nat × Nat)) (fun _ => True) (fun u => [(h, .inr (2, [.ref u.1, .ref u.2.1, .ref u.2.2.1, .ref u.2.2.2, .int (nI 0), .int (nI 0)])), (u.1, ar dA 256 (fun _ => 0)), (u.2.1, ar dA 256 (fun _ => 0)), (u.2.2.1, ar dA 256 (fun _ => 0)), (u.2.2.2, ar dA 256 (fun _ => 0))]) := by
  refine CTV.intro (by decide) (Nat.le_of_ble_eq_true rfl) ?_
  intro M A F hin
  have F : FX M l D dA A cX2_init 1 RX2 none ({ frames := 1, cells := 4, slots := 1024, locals := 12 } : Room) := F
  generalize hQ : QV M D dA A _ _ _ = Q
  show WW M D A 1 Q _ 0 0 0 [(0, .ref h)] []
  refine w_aload_n F dX2_init_0 0 rfl ?_
  refine w_objInit F q138 dX2_init_1 (by decide) (Nat.le_of_ble_eq_true rfl) ?_
  refine w_aload_n F dX2_init_4 0 rfl ?_
  refine w_sipush F (nI 256) dX2_init_5 (by decide) ?_
  refine w_newa F dX2_init_8 (by omega) (by decide) (by decide) (fun ht => ?_)
  refine w_ws ([(h, .inr (2, [.null, .null, .null, .null, .int (nI 0), .int (nI 0)])), (ht, ar dA 256 (fun _ => 0))]) rfl ?_
  refine w_putF F hin 0 ([(h, .inr (2, [.ref ht, .null, .null, .null, .int (nI 0), .int (nI 0)])), (ht, ar dA 256 (fun _ => 0))]) in_X2 tyX2 tyX2_ok nmX2 rfl rfl 0 (by decide) q139 rfl rfl (tyX2_ok 0 (by decide)) rfl rfl (Nat.le_of_ble_eq_true rfl) dX2_init_10 rfl ?_
  refine w_aload_n F dX2_init_13 0 rfl ?_
  refine w_sipush F (nI 256) dX2_init_14 (by decide) ?_
  refine w_newa F dX2_init_17 (by omega) (by decide) (by decide) (fun hst => ?_)
  refine w_ws ([(h, .inr (2, [.ref ht, .null, .null, .null, .int (nI 0), .int (nI 0)])), (ht, ar dA 256 (fun _ => 0)), (hst, ar dA 256 (fun _ => 0))]) rfl ?_
  refine w_putF F hin 0 ([(h, .inr (2, [.ref ht, .ref hst, .null, .null, .int (nI 0), .int (nI 0)])), (ht, ar dA 256 (fun _ => 0)), (hst, ar dA 256 (fun _ => 0))]) in_X2 tyX2 tyX2_ok nmX2 rfl rfl 1 (by decide) q140 rfl rfl (tyX2_ok 1 (by decide)) rfl rfl (Nat.le_of_ble_eq_true rfl) dX2_init_19 rfl ?_
  refine w_aload_n F dX2_init_22 0 rfl ?_
  refine w_sipush F (nI 256) dX2_init_23 (by decide) ?_
  refine w_newa F dX2_init_26 (by omega) (by decide) (by decide) (fun hcol => ?_)
  refine w_ws ([(h, .inr (2, [.ref ht, .ref hst, .null, .null, .int (nI 0), .int (nI 0)])), (ht, ar dA 256 (fun _ => 0)), (hst, ar dA 256 (fun _ => 0)), (hcol, ar dA 256 (fun _ => 0))]) rfl ?_
  refine w_putF F hin 0 ([(h, .inr (2, [.ref ht, .ref hst, .ref hcol, .null, .int (nI 0), .int (nI 0)])), (ht, ar dA 256 (fun _ => 0)), (hst, ar dA 256 (fun _ => 0)), (hcol, ar dA 256 (fun _ => 0))]) in_X2 tyX2 tyX2_ok nmX2 rfl rfl 2 (by decide) q141 rfl rfl (tyX2_ok 2 (by decide)) rfl rfl (Nat.le_of_ble_eq_true rfl) dX2_init_28 rfl ?_
  refine w_aload_n F dX2_init_31 0 rfl ?_
  refine w_sipush F (nI 256) dX2_init_32 (by decide) ?_
  refine w_newa F dX2_init_35 (by omega) (by decide) (by decide) (fun hk => ?_)
  refine w_ws ([(h, .inr (2, [.ref ht, .ref hst, .ref hcol, .null, .int (nI 0), .int (nI 0)])), (ht, ar dA 256 (fun _ => 0)), (hst, ar dA 256 (fun _ => 0)), (hcol, ar dA 256 (fun _ => 0)), (hk, ar dA 256 (fun _ => 0))]) rfl ?_
  refine w_putF F hin 0 ([(h, .inr (2, [.ref ht, .ref hst, .ref hcol, .ref hk, .int (nI 0), .int (nI 0)])), (ht, ar dA 256 (fun _ => 0)), (hst, ar dA 256 (fun _ => 0)), (hcol, ar dA 256 (fun _ => 0)), (hk, ar dA 256 (fun _ => 0))]) in_X2 tyX2 tyX2_ok nmX2 rfl rfl 3 (by decide) q142 rfl rfl (tyX2_ok 3 (by decide)) rfl rfl (Nat.le_of_ble_eq_true rfl) dX2_init_37 rfl ?_
  rw [← hQ]
  exact w_vret F dX2_init_40 (ht, hst, hcol, hk) trivial [0, 1, 2, 3, 4] rfl rfl (by decide) (by decide)
set_option maxHeartbeats 4000000 in
set_option maxRecDepth 100000 in
theorem met_X0_init (l : Launch) (D : va_G) (dA : ClassId) (h : Nat) :
    CTV l D dA yX0_init cX0_init 1 ({ frames := 2, cells := 10, slots := 2323, locals := 32 } : Room) [.ref h] [(h, .inr (0, [.null, .int (nI 0), .null, .null, .int (nI 0), .null, .null, .null, .null, .null, .null]))] (S := (Nat × Nat × Nat × Nat × Nat × Nat × Nat × Nat × Nat × Nat)) (fun _ => True) (fun u => [(h, .inr (0, [.ref u.1, .int (nI 0), .ref u.2.1, .ref u.2.2.1, .int (nI 0), .ref u.2.2.2.1, .ref u.2.2.2.2.2.1, .ref u.2.2.2.2.2.2.1, .ref u.2.2.2.2.2.2.2.1, .ref u.2.2.2.2.2.2.2.2.1, .ref u.2.2.2.2.2.2.2.2.2])), (u.1, ar dA 256 (fun _ => 0)), (u.2.1, ar dA 256 (fun _ => 0)), (u.2.2.1, ar dA 256 (fun _ => 0)), (u.2.2.2.1, .inr (1, [.ref u.2.2.2.2.1])), (u.2.2.2.2.1, ar dA 264 (fun _ => 0)), (u.2.2.2.2.2.1, ar dA 257 (fun _ => 0)), (u.2.2.2.2.2.2.1, ar dA 260 (fun _ => 0)), (u.2.2.2.2.2.2.2.1, ar dA 260 (fun _ => 0)), (u.2.2.2.2.2.2.2.2.1, ar dA 257 (fun _ => 0)), (u.2.2.2.2.2.2.2.2.2, ar dA 256 (fun _ => 0))]) := by
  refine CTV.intro (by decide) (Nat.le_of_ble_eq_true rfl) ?_
  intro M A F hin
  have F : FX M l D dA A cX0_init 1 RX0 none ({ frames := 2, cells := 10, slots := 2323, locals := 32 } : Room) := F
  generalize hQ : QV M D dA A _ _ _ = Q
  show WW M D A 1 Q _ 0 0 0 [(0, .ref h)] []
  refine w_aload_n F dX0_init_0 0 rfl ?_
  refine w_objInit F q18 dX0_init_1 (by decide) (Nat.le_of_ble_eq_true rfl) ?_
  refine w_aload_n F dX0_init_4 0 rfl ?_
  refine w_sipush F (nI 256) dX0_init_5 (by decide) ?_
  refine w_newa F dX0_init_8 (by omega) (by decide) (by decide) (fun ht => ?_)
  refine w_ws ([(h, .inr (0, [.null, .int (nI 0), .null, .null, .int (nI 0), .null, .null, .null, .null, .null, .null])), (ht, ar dA 256 (fun _ => 0))]) rfl ?_
  refine w_putF F hin 0 ([(h, .inr (0, [.ref ht, .int (nI 0), .null, .null, .int (nI 0), .null, .null, .null, .null, .null, .null])), (ht, ar dA 256 (fun _ => 0))]) in_X0 tyX0 tyX0_ok nmX0 rfl rfl 0 (by decide) q32 rfl rfl (tyX0_ok 0 (by decide)) rfl rfl (Nat.le_of_ble_eq_true rfl) dX0_init_10 rfl ?_
  refine w_aload_n F dX0_init_13 0 rfl ?_
  refine w_sipush F (nI 256) dX0_init_14 (by decide) ?_
  refine w_newa F dX0_init_17 (by omega) (by decide) (by decide) (fun hcol => ?_)
  refine w_ws ([(h, .inr (0, [.ref ht, .int (nI 0), .null, .null, .int (nI 0), .null, .null, .null, .null, .null, .null])), (ht, ar dA 256 (fun _ => 0)), (hcol, ar dA 256 (fun _ => 0))]) rfl ?_
  refine w_putF F hin 0 ([(h, .inr (0, [.ref ht, .int (nI 0), .ref hcol, .null, .int (nI 0), .null, .null, .null, .null, .null, .null])), (ht, ar dA 256 (fun _ => 0)), (hcol, ar dA 256 (fun _ => 0))]) in_X0 tyX0 tyX0_ok nmX0 rfl rfl 2 (by decide) q34 rfl rfl (tyX0_ok 2 (by decide)) rfl rfl (Nat.le_of_ble_eq_true rfl) dX0_init_19 rfl ?_
  refine w_aload_n F dX0_init_22 0 rfl ?_
  refine w_sipush F (nI 256) dX0_init_23 (by decide) ?_
  refine w_newa F dX0_init_26 (by omega) (by decide) (by decide) (fun hk => ?_)
  refine w_ws ([(h, .inr (0, [.ref ht, .int (nI 0), .ref hcol, .null, .int (nI 0), .null, .null, .null, .null, .null, .null])), (ht, ar dA 256 (fun _ => 0)), (hcol, ar dA 256 (fun _ => 0)), (hk, ar dA 256 (fun _ => 0))]) rfl ?_
  refine w_putF F hin 0 ([(h, .inr (0, [.ref ht, .int (nI 0), .ref hcol, .ref hk, .int (nI 0), .null, .null, .null, .null, .null, .null])), (ht, ar dA 256 (fun _ => 0)), (hcol, ar dA 256 (fun _ => 0)), (hk, ar dA 256 (fun _ => 0))]) in_X0 tyX0 tyX0_ok nmX0 rfl rfl 3 (by decide) q35 rfl rfl (tyX0_ok 3 (by decide)) rfl rfl (Nat.le_of_ble_eq_true rfl) dX0_init_28 rfl ?_
  refine w_aload_n F dX0_init_31 0 rfl ?_
  refine w_new F [.null] in_X1 tyX1 tyX1_ok q21 q22 q10 (ci := 1) rfl df_X1 (by decide) (by decide) dX0_init_32 (fun hs => ?_)
  refine w_ws ([(h, .inr (0, [.ref ht, .int (nI 0), .ref hcol, .ref hk, .int (nI 0), .null, .null, .null, .null, .null, .null])), (ht, ar dA 256 (fun _ => 0)), (hcol, ar dA 256 (fun _ => 0)), (hk, ar dA 256 (fun _ => 0)), (hs, .inr (1, [.null]))]) rfl ?_
  refine w_dup F dX0_init_35 rfl ?_
  refine w_callINV F (wr := [(h, .inr (0, [.ref ht, .int (nI 0), .ref hcol, .ref hk, .int (nI 0), .null, .null, .null, .null, .null, .null])), (ht, ar dA 256 (fun _ => 0)), (hcol, ar dA 256 (fun _ => 0)), (hk, ar dA 256 (fun _ => 0))]) (As := []) (met_X1_init l D dA hs) [4] [0, 1, 2, 3] ⟨rfl, by decide, rfl, by decide, by decide⟩ [0, 1, 2, 3, 4, 5] (fun u => [(h, .inr (0, [.ref ht, .int (nI 0), .ref hcol, .ref hk, .int (nI 0), .null, .null, .null, .null, .null, .null])), (ht, ar dA 256 (fun _ => 0)), (hcol, ar dA 256 (fun _ => 0)), (hk, ar dA 256 (fun _ => 0)), (hs, .inr (1, [.ref u])), (u, ar dA 264 (fun _ => 0))]) (fun _ => rfl) (by decide) F.2.2.2.2.2.2.2.2.2.2.2 q24 q10 q25 rfl nam_X1_init (by decide) (by decide) (by decide) (by decide) rfl (Nat.le_of_ble_eq_true rfl) dX0_init_36 (fun hc hp0 => ?_)
  refine w_putF F hin 0 ([(h, .inr (0, [.ref ht, .int (nI 0), .ref hcol, .ref hk, .int (nI 0), .ref hs, .null, .null, .null, .null, .null])), (ht, ar dA 256 (fun _ => 0)), (hcol, ar dA 256 (fun _ => 0)), (hk, ar dA 256 (fun _ => 0)), (hs, .inr (1, [.ref hc])), (hc, ar dA 264 (fun _ => 0))]) in_X0 tyX0 tyX0_ok nmX0 rfl rfl 5 (by decide) q37 rfl rfl (tyX0_ok 5 (by decide)) rfl rfl (Nat.le_of_ble_eq_true rfl) dX0_init_39 rfl ?_
  refine w_aload_n F dX0_init_42 0 rfl ?_
  refine w_sipush F (nI 257) dX0_init_43 (by decide) ?_
  refine w_newa F dX0_init_46 (by omega) (by decide) (by decide) (fun hb => ?_)
  refine w_ws ([(h, .inr (0, [.ref ht, .int (nI 0), .ref hcol, .ref hk, .int (nI 0), .ref hs, .null, .null, .null, .null, .null])), (ht, ar dA 256 (fun _ => 0)), (hcol, ar dA 256 (fun _ => 0)), (hk, ar dA 256 (fun _ => 0)), (hs, .inr (1, [.ref hc])), (hc, ar dA 264 (fun _ => 0)), (hb, ar dA 257 (fun _ => 0))]) rfl ?_
  refine w_putF F hin 0 ([(h, .inr (0, [.ref ht, .int (nI 0), .ref hcol, .ref hk, .int (nI 0), .ref hs, .ref hb, .null, .null, .null, .null])), (ht, ar dA 256 (fun _ => 0)), (hcol, ar dA 256 (fun _ => 0)), (hk, ar dA 256 (fun _ => 0)), (hs, .inr (1, [.ref hc])), (hc, ar dA 264 (fun _ => 0)), (hb, ar dA 257 (fun _ => 0))]) in_X0 tyX0 tyX0_ok nmX0 rfl rfl 6 (by decide) q38 rfl rfl (tyX0_ok 6 (by decide)) rfl rfl (Nat.le_of_ble_eq_true rfl) dX0_init_48 rfl ?_
  refine w_aload_n F dX0_init_51 0 rfl ?_
  refine w_sipush F (nI 260) dX0_init_52 (by decide) ?_
  refine w_newa F dX0_init_55 (by omega) (by decide) (by decide) (fun hr => ?_)
  refine w_ws ([(h, .inr (0, [.ref ht, .int (nI 0), .ref hcol, .ref hk, .int (nI 0), .ref hs, .ref hb, .null, .null, .null, .null])), (ht, ar dA 256 (fun _ => 0)), (hcol, ar dA 256 (fun _ => 0)), (hk, ar dA 256 (fun _ => 0)), (hs, .inr (1, [.ref hc])), (hc, ar dA 264 (fun _ => 0)), (hb, ar dA 257 (fun _ => 0)), (hr, ar dA 260 (fun _ => 0))]) rfl ?_
  refine w_putF F hin 0 ([(h, .inr (0, [.ref ht, .int (nI 0), .ref hcol, .ref hk, .int (nI 0), .ref hs, .ref hb, .ref hr, .null, .null, .null])), (ht, ar dA 256 (fun _ => 0)), (hcol, ar dA 256 (fun _ => 0)), (hk, ar dA 256 (fun _ => 0)), (hs, .inr (1, [.ref hc])), (hc, ar dA 264 (fun _ => 0)), (hb, ar dA 257 (fun _ => 0)), (hr, ar dA 260 (fun _ => 0))]) in_X0 tyX0 tyX0_ok nmX0 rfl rfl 7 (by decide) q39 rfl rfl (tyX0_ok 7 (by decide)) rfl rfl (Nat.le_of_ble_eq_true rfl) dX0_init_57 rfl ?_
  refine w_aload_n F dX0_init_60 0 rfl ?_
  refine w_sipush F (nI 260) dX0_init_61 (by decide) ?_
  refine w_newa F dX0_init_64 (by omega) (by decide) (by decide) (fun ho => ?_)
  refine w_ws ([(h, .inr (0, [.ref ht, .int (nI 0), .ref hcol, .ref hk, .int (nI 0), .ref hs, .ref hb, .ref hr, .null, .null, .null])), (ht, ar dA 256 (fun _ => 0)), (hcol, ar dA 256 (fun _ => 0)), (hk, ar dA 256 (fun _ => 0)), (hs, .inr (1, [.ref hc])), (hc, ar dA 264 (fun _ => 0)), (hb, ar dA 257 (fun _ => 0)), (hr, ar dA 260 (fun _ => 0)), (ho, ar dA 260 (fun _ => 0))]) rfl ?_
  refine w_putF F hin 0 ([(h, .inr (0, [.ref ht, .int (nI 0), .ref hcol, .ref hk, .int (nI 0), .ref hs, .ref hb, .ref hr, .ref ho, .null, .null])), (ht, ar dA 256 (fun _ => 0)), (hcol, ar dA 256 (fun _ => 0)), (hk, ar dA 256 (fun _ => 0)), (hs, .inr (1, [.ref hc])), (hc, ar dA 264 (fun _ => 0)), (hb, ar dA 257 (fun _ => 0)), (hr, ar dA 260 (fun _ => 0)), (ho, ar dA 260 (fun _ => 0))]) in_X0 tyX0 tyX0_ok nmX0 rfl rfl 8 (by decide) q40 rfl rfl (tyX0_ok 8 (by decide)) rfl rfl (Nat.le_of_ble_eq_true rfl) dX0_init_66 rfl ?_
  refine w_aload_n F dX0_init_69 0 rfl ?_
  refine w_sipush F (nI 257) dX0_init_70 (by decide) ?_
  refine w_newa F dX0_init_73 (by omega) (by decide) (by decide) (fun hn => ?_)
  refine w_ws ([(h, .inr (0, [.ref ht, .int (nI 0), .ref hcol, .ref hk, .int (nI 0), .ref hs, .ref hb, .ref hr, .ref ho, .null, .null])), (ht, ar dA 256 (fun _ => 0)), (hcol, ar dA 256 (fun _ => 0)), (hk, ar dA 256 (fun _ => 0)), (hs, .inr (1, [.ref hc])), (hc, ar dA 264 (fun _ => 0)), (hb, ar dA 257 (fun _ => 0)), (hr, ar dA 260 (fun _ => 0)), (ho, ar dA 260 (fun _ => 0)), (hn, ar dA 257 (fun _ => 0))]) rfl ?_
  refine w_putF F hin 0 ([(h, .inr (0, [.ref ht, .int (nI 0), .ref hcol, .ref hk, .int (nI 0), .ref hs, .ref hb, .ref hr, .ref ho, .ref hn, .null])), (ht, ar dA 256 (fun _ => 0)), (hcol, ar dA 256 (fun _ => 0)), (hk, ar dA 256 (fun _ => 0)), (hs, .inr (1, [.ref hc])), (hc, ar dA 264 (fun _ => 0)), (hb, ar dA 257 (fun _ => 0)), (hr, ar dA 260 (fun _ => 0)), (ho, ar dA 260 (fun _ => 0)), (hn, ar dA 257 (fun _ => 0))]) in_X0 tyX0 tyX0_ok nmX0 rfl rfl 9 (by decide) q41 rfl rfl (tyX0_ok 9 (by decide)) rfl rfl (Nat.le_of_ble_eq_true rfl) dX0_init_75 rfl ?_
  refine w_aload_n F dX0_init_78 0 rfl ?_
  refine w_sipush F (nI 256) dX0_init_79 (by decide) ?_
  refine w_newa F dX0_init_82 (by omega) (by decide) (by decide) (fun hl => ?_)
  refine w_ws ([(h, .inr (0, [.ref ht, .int (nI 0), .ref hcol, .ref hk, .int (nI 0), .ref hs, .ref hb, .ref hr, .ref ho, .ref hn, .null])), (ht, ar dA 256 (fun _ => 0)), (hcol, ar dA 256 (fun _ => 0)), (hk, ar dA 256 (fun _ => 0)), (hs, .inr (1, [.ref hc])), (hc, ar dA 264 (fun _ => 0)), (hb, ar dA 257 (fun _ => 0)), (hr, ar dA 260 (fun _ => 0)), (ho, ar dA 260 (fun _ => 0)), (hn, ar dA 257 (fun _ => 0)), (hl, ar dA 256 (fun _ => 0))]) rfl ?_
  refine w_putF F hin 0 ([(h, .inr (0, [.ref ht, .int (nI 0), .ref hcol, .ref hk, .int (nI 0), .ref hs, .ref hb, .ref hr, .ref ho, .ref hn, .ref hl])), (ht, ar dA 256 (fun _ => 0)), (hcol, ar dA 256 (fun _ => 0)), (hk, ar dA 256 (fun _ => 0)), (hs, .inr (1, [.ref hc])), (hc, ar dA 264 (fun _ => 0)), (hb, ar dA 257 (fun _ => 0)), (hr, ar dA 260 (fun _ => 0)), (ho, ar dA 260 (fun _ => 0)), (hn, ar dA 257 (fun _ => 0)), (hl, ar dA 256 (fun _ => 0))]) in_X0 tyX0 tyX0_ok nmX0 rfl rfl 10 (by decide) q42 rfl rfl (tyX0_ok 10 (by decide)) rfl rfl (Nat.le_of_ble_eq_true rfl) dX0_init_84 rfl ?_
  rw [← hQ]
  exact w_vret F dX0_init_87 (ht, hcol, hk, hs, hc, hb, hr, ho, hn, hl) trivial [0, 1, 2, 3, 4, 5, 6, 7, 8, 9, 10] rfl rfl (by decide) (by decide)
end
section
/-! THE CLAIM OUT OF ONE WALK OF THE LAW'S BODY. Your part is whole_start (and what it stands on); all else here is the same for every law, but numbers. -/
def R_law : String := "RotationSortLaw"
def lw_P (b : Addr) (xs : List Int32) (args : Array Value) (s : State) : Prop := args = #[.ref b] ∧ s.IntsAt b xs ∧ xs.length ≤ 320 ∧ (Jvm.Cond.and given_1 narrow_1).before args s = true
def lw_Q (_ : Array Value) (s : State) (o : Outcome) (t : State) : Prop := o = .returned (some (.int 1)) ∧ Framed s o t [] 600000 7302250
def lw_Z (below : List Frame) (a : Array Value) (s : State) : State → Prop := fun t => ∃ o, t.status = .running ∧ Ended t below o ∧ lw_Q a s o t
/-- the law's own end, with 1 on the stack, nothing written that was there before, its room as the claim has it -/
theorem lw_ret {p : Program} {l : Launch} {e : Env} {s : State} {m : MethodId} {below : List Frame} {meth : Method} {c : Code} {b : Nat} (hx : p.tables.exec = Jvm.exec) (hb : c.code = code) (hr : meth.sig.returnType = ret) (hlocks : meth.locks = false) {pc : Nat} {H : Heap} {ls : Array Slot} (hdg : decode code pc = .ok (.ireturn, 1)) : W p l e room_1 s m #[Value.ref b] below meth c H [] 600000 7302250 (lw_Z below #[Value.ref b] s) (F0 m pc ls [.int 1]) := by
  intro T hT X
  obtain ⟨fs, hret, hrun, hended, hW, hframe⟩ := X.leave (v := some (.int 1)) (hlocks := hlocks) (fun h => by rw [hr] at h; cases h)
  have hmeth' : T.vm.method? m = some meth := X.method'
  refine ⟨T.setFrames fs, ?_, .returned (some (.int 1)), hrun, hended, rfl, ⟨_, rfl⟩, hW, hframe⟩
  jvm_step X.here [X.here.top, hx, hb, hdg, hmeth', hr, ret, narrow_b1]
  (try refine ⟨rfl, ?_⟩); (try refine ⟨rfl, ?_⟩)
  first | (intro acts; rw [hret _ acts rfl rfl rfl]) | rw [hret _ _ rfl rfl rfl]
  exact Steps.refl _
/-- what holds at the law's entry: the machine, the code, the tables' words (any of lw_tbl by 'hts w (by decide +kernel)'), the script of L ints xs at the cell b, what the Statement gives of the start (any of its parts by flat_of_before) -/
def lw_At (p : Program) (s : State) (m : MethodId) (meth : Method) (c : Code) (b L : Nat) (xs : Nat → Int32) : Prop :=
  p.tables.exec = Jvm.exec ∧ c.code = code ∧ meth.sig.returnType = ret ∧ c.maxLocals = 4 ∧ s.vm.findClass R_law = some m.cls ∧ (∀ w ∈ lw_tbl, w.before #[Value.ref b] s = true) ∧ va_X b L xs s s.heap ∧ b < s.heap.size ∧ meth.locks = false ∧ (Jvm.Cond.and given_1 narrow_1).before #[Value.ref b] s = true
end
section
theorem w_sld {M : MC} {l : Launch} {D : va_G} {dA : ClassId} {A : Nat → Prop} {cc : ByteArray} {nL : Nat} {own : String} {rt : Option FieldType} {rm : Room} {Q : State → Prop} {ws : va_W} {cells slots pc : Nat} {lv : List (Nat × Value)} {st : List Value} (F : FX M l D dA A cc nL own rt rm) {b L i : Nat} {xs : Nat → Int32} (hX : va_X b L xs (mS M) (mS M).heap) (hbl : b < (mS M).heap.size) (hbA : ¬ A b) (hdg : decode cc pc = .ok (.iaload, 1)) (hi : i < L) (hL : L < 2 ^ 31) (kk : WW M D A nL Q ws cells slots (pc + 1) lv (.int (xs i) :: st)) : WW M D A nL Q ws cells slots pc lv (.int (nI i) :: .ref b :: st) :=
  fun H locs ls hP hD hS h => va_sld F.1 F.2.1 hX hbl hbA hS (vp_in_nI hi hL) hdg (by rw [nI_clamp (Nat.lt_trans hi hL)]; exact kk H locs ls hP hD hS h)
theorem w_slen {M : MC} {l : Launch} {D : va_G} {dA : ClassId} {A : Nat → Prop} {cc : ByteArray} {nL : Nat} {own : String} {rt : Option FieldType} {rm : Room} {Q : State → Prop} {ws : va_W} {cells slots pc : Nat} {lv : List (Nat × Value)} {st : List Value} (F : FX M l D dA A cc nL own rt rm) {b L : Nat} {xs : Nat → Int32} (hX : va_X b L xs (mS M) (mS M).heap) (hbl : b < (mS M).heap.size) (hbA : ¬ A b) (hdg : decode cc pc = .ok (.arraylength, 1)) (kk : WW M D A nL Q ws cells slots (pc + 1) lv (.int (nI L) :: st)) : WW M D A nL Q ws cells slots pc lv (.ref b :: st) :=
  fun H locs ls hP hD hS h => va_slen F.1 F.2.1 hX hbl hbA hS hdg (kk H locs ls hP hD hS h)
theorem w_icmp_gtX {M : MC} {l : Launch} {D : va_G} {dA : ClassId} {A : Nat → Prop} {cc : ByteArray} {nL : Nat} {own : String} {rt : Option FieldType} {rm : Room} {Q : State → Prop} {ws : va_W} {cells slots pc : Nat} {lv : List (Nat × Value)} {st : List Value} (F : FX M l D dA A cc nL own rt rm) {x y : Int32} {off : Int} (tgt : Nat) (hdg : decode cc pc = .ok (.if_icmp .gt off, 3)) (ht : (pc : Int) + off = (tgt : Int)) (kt : y < x → WW M D A nL Q ws cells slots tgt lv st) (kf : ¬ y < x → WW M D A nL Q ws cells slots (pc + 3) lv st) : WW M D A nL Q ws cells slots pc lv (.int y :: .int x :: st) :=
  fun H locs ls hP hD hS h => lv_icmp_gt F.1 F.2.1 hdg ht (fun c => kt c H locs ls hP hD hS h) (fun c => kf c H locs ls hP hD hS h)
theorem w_tabIn {M : MC} {l : Launch} {D : va_G} {dA : ClassId} {A : Nat → Prop} {cc : ByteArray} {nL : Nat} {own : String} {rt : Option FieldType} {rm : Room} {Q : State → Prop} {ws : va_W} {cells slots pc : Nat} {lv : List (Nat × Value)} {st : List Value} (F : FX M l D dA A cc nL own rt rm) {dflt lo hi : Int} {offs : Array Int} {len : Nat} {x : Int32} {off : Int} (tgt : Nat) (hdg : decode cc pc = .ok (.tableswitch dflt lo hi offs, len)) (h1 : ¬ x.toInt < lo) (h2 : ¬ hi < x.toInt) (ho : offs[(x.toInt - lo).toNat]? = some off) (ht : (pc : Int) + off = (tgt : Int)) (kk : WW M D A nL Q ws cells slots tgt lv st) : WW M D A nL Q ws cells slots pc lv (.int x :: st) :=
  fun H locs ls hP hD hS h => lv_tableIn F.1 F.2.1 hdg h1 h2 ho ht (kk H locs ls hP hD hS h)
theorem w_tabOut {M : MC} {l : Launch} {D : va_G} {dA : ClassId} {A : Nat → Prop} {cc : ByteArray} {nL : Nat} {own : String} {rt : Option FieldType} {rm : Room} {Q : State → Prop} {ws : va_W} {cells slots pc : Nat} {lv : List (Nat × Value)} {st : List Value} (F : FX M l D dA A cc nL own rt rm) {dflt lo hi : Int} {offs : Array Int} {len : Nat} {x : Int32} (tgt : Nat) (hdg : decode cc pc = .ok (.tableswitch dflt lo hi offs, len)) (h1 : x.toInt < lo ∨ hi < x.toInt) (ht : (pc : Int) + dflt = (tgt : Int)) (kk : WW M D A nL Q ws cells slots tgt lv st) : WW M D A nL Q ws cells slots pc lv (.int x :: st) :=
  fun H locs ls hP hD hS h => lv_tableOut F.1 F.2.1 hdg h1 ht (kk H locs ls hP hD hS h)
theorem and7 (x : Int32) : x &&& nI 7 = nI (x.toBitVec.toNat % 8) := pk_and x 3 (by decide)
theorem law_gt {L i : Nat} (hL : L ≤ 400) (hi : i ≤ 400) : nI L - nI 5 < nI i ↔ L < i + 5 := by
  have h1 := pk_sub_toInt (a := L) (b := 5) (by omega) (by omega)
  have h2 := nI_toInt (n := i) (by omega)
  rw [Int32.lt_iff_toInt_lt, h1, h2]
  omega
/-- what the two hold alike -/
def LV (t : Nat → Nat) (z m : Nat) (colX kpX rt colM kpM : Nat → Nat) : Prop := (∀ i, t i < 256) ∧ z ≤ 256 ∧ m ≤ 256 ∧ (∀ i, rt i < 1000) ∧ (∀ j, j < m → colX j = colM j) ∧ ∀ j, j < m → kpX j = kpM j
theorem at_same {c1 c2 : Nat → Nat} {m : Nat} {a r1 r2 : Int32} (h : ∀ j, j < m → c1 j = c2 j) (h1 : atPost c1 m a r1) (h2 : atPost c2 m a r2) : r1 = r2 := by
  rcases h1 with ⟨e1, q1⟩ | ⟨e1, q1⟩ <;> rcases h2 with ⟨e2, q2⟩ | ⟨e2, q2⟩
  · rw [q1, q2]
  · omega
  · omega
  · rw [q1, q2, h _ (Nat.mod_lt _ e1)]
theorem law_put {t rt colX kpX colM kpM : Nat → Nat} {z m : Nat} {a b c d r0 r1 : Int32} {u0 u1 : (Nat → Nat) × Nat} (h : LV t z m colX kpX rt colM kpM) (h0 : putPost t z a b c d r0 u0) (h1 : putPost t z a b c d r1 u1) : r0 = r1 ∧ u0 = u1 ∧ LV u1.1 u1.2 m colX kpX rt colM kpM := by
  obtain ⟨a1, a2, a3, a4, a5, a6⟩ := h
  rcases h0 with ⟨e, q, w⟩ | ⟨e, q, w⟩ <;> rcases h1 with ⟨e', q', w'⟩ | ⟨e', q', w'⟩
  · refine ⟨by rw [q, q'], by rw [w, w'], ?_⟩
    rw [w']
    exact ⟨pT_lt z a b c d a1, by show z + 4 ≤ 256; omega, a3, a4, a5, a6⟩
  · omega
  · omega
  · refine ⟨by rw [q, q'], by rw [w, w'], ?_⟩
    rw [w']
    exact ⟨a1, a2, a3, a4, a5, a6⟩
theorem law_rep {t rt colX kpX colM kpM : Nat → Nat} {z m : Nat} {a b r0 r1 : Int32} {u0 u1 : (Nat → Nat) × Nat} (h : LV t z m colX kpX rt colM kpM) (h0 : repPost t z a b r0 u0) (h1 : repPost t z a b r1 u1) : r0 = r1 ∧ u0 = u1 ∧ LV u1.1 u1.2 m colX kpX rt colM kpM := by
  obtain ⟨a1, a2, a3, a4, a5, a6⟩ := h
  rcases h0 with ⟨e, q, w⟩ | ⟨e, q, w⟩ <;> rcases h1 with ⟨e', q', w'⟩ | ⟨e', q', w'⟩
  · refine ⟨by rw [q, q'], by rw [w, w'], ?_⟩
    rw [w']
    exact ⟨a1, a2, a3, a4, a5, a6⟩
  · omega
  · omega
  · refine ⟨by rw [q, q'], by rw [w, w'], ?_⟩
    rw [w']
    have hN : rpN b z ≤ 256 - z := Nat.min_le_right _ _
    exact ⟨rT_lt _ _ a1 _, by show z + rpN b z ≤ 256; omega, a3, a4, a5, a6⟩
theorem law_turn {t rt colX kpX colM kpM rt' colX' kpX' colM' kpM' : Nat → Nat} {z m mX mM : Nat} {r0 r1 : Int32} (h : LV t z m colX kpX rt colM kpM) (h0 : turnPost t z m colX kpX r0 colX' kpX' mX) (hr : ∀ i, rt' i < 1000) (h1 : turnPost t z m colM kpM r1 colM' kpM' mM) : r0 = r1 ∧ mX = mM ∧ LV t z mM colX' kpX' rt' colM' kpM' := by
  obtain ⟨a1, a2, a3, a4, a5, a6⟩ := h
  rcases h0 with ⟨e, q, w1, w2, w3⟩ | ⟨e, q, w1, ⟨st, w2⟩, w3⟩ <;> rcases h1 with ⟨e', q', v1, v2, v3⟩ | ⟨e', q', v1, ⟨st', v2⟩, v3⟩
  · refine ⟨by rw [q, q'], by rw [w3, v3], a1, a2, by rw [v3]; exact a3, hr, ?_, ?_⟩
    · rw [v3, w1, v1]; exact a5
    · rw [v3, w2, v2]; exact a6
  · omega
  · omega
  · refine ⟨by rw [q, q'], by rw [w1, v1], a1, a2, by rw [v1]; exact a2, hr, ?_, ?_⟩
    · rw [v1]; exact BW_unique (by omega) w2 v2
    · rw [v1]; exact fun j hj => (w3 j hj).trans (v3 j hj).symm
set_option maxHeartbeats 8000000 in
set_option maxRecDepth 100000 in
/-- the law's walk, from its entry, over the class and its model -/
theorem law_walk {M : MC} {l : Launch} {D : va_G} {dA : ClassId} {A : Nat → Prop} {Q : State → Prop} {b L : Nat} {xs : Nat → Int32} (F : FX M l D dA A cL_law 4 R_law ret room_1) (hL : L ≤ 320) (hX : va_X b L xs (mS M) (mS M).heap) (hbl : b < (mS M).heap.size) (hbA : ¬ A b) (hend : ∀ (ws : va_W) (cells slots : Nat) (lv : List (Nat × Value)), cells ≤ 600000 → slots ≤ 7302250 → WW M D A 4 Q ws cells slots 235 lv [.int (nI 1)]) : WW M D A 4 Q [] 0 0 0 [(0, .ref b)] [] := by
  have hrc : room_1.cells = 600000 := rfl
  have hrs : room_1.slots = 7302250 := rfl
  have L18 : ∀ (h ht hcol hk hs hc hb hr ho hn hl g gt gst gcol gk : Nat) (n k i : Nat) (t colX kpX cnt rt od nm lk st colM kpM : Nat → Nat) (bd : Nat → Int32) (z m : Nat), i = 5 * k → i ≤ L → L + 5 < i + 5 * n → LV t z m colX kpX rt colM kpM → WW M D A 4 Q [(h, .inr (0, [.ref ht, .int (nI z), .ref hcol, .ref hk, .int (nI m), .ref hs, .ref hb, .ref hr, .ref ho, .ref hn, .ref hl])), (ht, ar dA 256 t), (hcol, ar dA 256 colX), (hk, ar dA 256 kpX), (hs, .inr (1, [.ref hc])), (hc, ar dA 264 cnt), (hb, ai dA 257 bd), (hr, ar dA 260 rt), (ho, ar dA 260 od), (hn, ar dA 257 nm), (hl, ar dA 256 lk), (g, .inr (2, [.ref gt, .ref gst, .ref gcol, .ref gk, .int (nI z), .int (nI m)])), (gt, ar dA 256 t), (gst, ar dA 256 st), (gcol, ar dA 256 colM), (gk, ar dA 256 kpM)] (20 + 1024 * k) (5000 + 5120 * k) 18 [(0, .ref b), (1, .ref h), (2, .ref g), (3, .int (nI i))] [] := by
    intro h ht hcol hk hs hc hb hr ho hn hl g gt gst gcol gk n
    induction n with
    | zero => intro k i t colX kpX cnt rt od nm lk st colM kpM bd z m ji jk jn hI; exfalso; omega
    | succ n ih =>
      intro k i t colX kpX cnt rt od nm lk st colM kpM bd z m ji jk jn hI
      obtain ⟨hT, hz, hm, hrb, jcol, jkp⟩ := id hI
      refine w_iload_n F dL_law_18 3 rfl ?_
      refine w_aload_n F dL_law_19 0 rfl ?_
      refine w_slen F hX hbl hbA dL_law_20 ?_
      refine w_iconst F (nI 5) dL_law_21 (by decide) ?_
      refine w_isubX F dL_law_22 ?_
      refine w_icmp_gtX F 234 dL_law_23 (by decide) (fun c => ?_) (fun c => ?_)
      · skip
        refine w_iconst F (nI 1) dL_law_234 (by decide) ?_
        exact hend _ _ _ _ (by omega) (by omega)
      · skip
        have c1 : i + 5 ≤ L := by
          rcases Nat.lt_or_ge L (i + 5) with q | q
          · exact absurd ((law_gt (by omega) (by omega)).mpr q) c
          · exact q
        have J228 : ∀ (t colX kpX cnt rt od nm lk st colM kpM : Nat → Nat) (bd : Nat → Int32) (z m : Nat), LV t z m colX kpX rt colM kpM → WW M D A 4 Q [(h, .inr (0, [.ref ht, .int (nI z), .ref hcol, .ref hk, .int (nI m), .ref hs, .ref hb, .ref hr, .ref ho, .ref hn, .ref hl])), (ht, ar dA 256 t), (hcol, ar dA 256 colX), (hk, ar dA 256 kpX), (hs, .inr (1, [.ref hc])), (hc, ar dA 264 cnt), (hb, ai dA 257 bd), (hr, ar dA 260 rt), (ho, ar dA 260 od), (hn, ar dA 257 nm), (hl, ar dA 256 lk), (g, .inr (2, [.ref gt, .ref gst, .ref gcol, .ref gk, .int (nI z), .int (nI m)])), (gt, ar dA 256 t), (gst, ar dA 256 st), (gcol, ar dA 256 colM), (gk, ar dA 256 kpM)] (20 + 1024 * k + 1024) (5000 + 5120 * k + 5120) 228 [(0, .ref b), (1, .ref h), (2, .ref g), (3, .int (nI i))] [] := by
          intro t colX kpX cnt rt od nm lk st colM kpM bd z m hI
          refine w_iinc F (v := (nI (i + 5))) [(0, .ref b), (1, .ref h), (2, .ref g), (3, .int (nI (i + 5)))] dL_law_228 3 rfl (nI_add i 5) (by decide) rfl rfl ?_
          refine w_goto F 18 dL_law_231 (by decide) ?_
          exact ih (k + 1) (i + 5) t colX kpX cnt rt od nm lk st colM kpM bd z m (by omega) (by omega) (by omega) hI
        refine w_aload_n F dL_law_26 0 rfl ?_
        refine w_iload_n F dL_law_27 3 rfl ?_
        refine w_sld F hX hbl hbA dL_law_28 (by omega) (by omega) ?_
        refine w_bipush F (nI 7) dL_law_29 (by decide) ?_
        refine w_iandX F dL_law_31 ?_
        refine w_top (y := (nI ((xs i).toBitVec.toNat % 8))) (and7 _) ?_
        have hv : (xs i).toBitVec.toNat % 8 < 8 := Nat.mod_lt _ (by decide)
        generalize (xs i).toBitVec.toNat % 8 = v at hv ⊢
        rcases (show v = 0 ∨ v = 1 ∨ v = 2 ∨ v = 3 ∨ v = 4 ∨ v = 5 ∨ (v = 6 ∨ v = 7) by omega) with rfl | rfl | rfl | rfl | rfl | rfl | hv67
        · skip
          refine w_tabIn F 72 dL_law_32 (by decide) (by decide) rfl (by decide) ?_
          refine w_aload_n F dL_law_72 1 rfl ?_
          refine w_aload_n F dL_law_73 0 rfl ?_
          refine w_iload_n F dL_law_74 3 rfl ?_
          refine w_iconst F (nI 1) dL_law_75 (by decide) ?_
          refine w_iadd F dL_law_76 ?_
          refine w_sld F hX hbl hbA dL_law_77 (by omega) (by omega) ?_
          refine w_aload_n F dL_law_78 0 rfl ?_
          refine w_iload_n F dL_law_79 3 rfl ?_
          refine w_iconst F (nI 2) dL_law_80 (by decide) ?_
          refine w_iadd F dL_law_81 ?_
          refine w_sld F hX hbl hbA dL_law_82 (by omega) (by omega) ?_
          refine w_aload_n F dL_law_83 0 rfl ?_
          refine w_iload_n F dL_law_84 3 rfl ?_
          refine w_iconst F (nI 3) dL_law_85 (by decide) ?_
          refine w_iadd F dL_law_86 ?_
          refine w_sld F hX hbl hbA dL_law_87 (by omega) (by omega) ?_
          refine w_aload_n F dL_law_88 0 rfl ?_
          refine w_iload_n F dL_law_89 3 rfl ?_
          refine w_iconst F (nI 4) dL_law_90 (by decide) ?_
          refine w_iadd F dL_law_91 ?_
          refine w_sld F hX hbl hbA dL_law_92 (by omega) (by omega) ?_
          refine w_callVI F (wr := [(hcol, ar dA 256 colX), (hk, ar dA 256 kpX), (hs, .inr (1, [.ref hc])), (hc, ar dA 264 cnt), (hb, ai dA 257 bd), (hr, ar dA 260 rt), (ho, ar dA 260 od), (hn, ar dA 257 nm), (hl, ar dA 256 lk), (g, .inr (2, [.ref gt, .ref gst, .ref gcol, .ref gk, .int (nI z), .int (nI m)])), (gt, ar dA 256 t), (gst, ar dA 256 st), (gcol, ar dA 256 colM), (gk, ar dA 256 kpM)]) (q0 := 0) (met_X0_put l D dA h ht hcol hk hs hb hr ho hn hl t z m (xs (i + 1)) (xs (i + 2)) (xs (i + 3)) (xs (i + 4)) hz) [0, 1] [2, 3, 4, 5, 6, 7, 8, 9, 10, 11, 12, 13, 14, 15] ⟨rfl, by decide, rfl, by decide, by decide⟩ [14, 15, 0, 1, 2, 3, 4, 5, 6, 7, 8, 9, 10, 11, 12, 13] (fun u => [(h, .inr (0, [.ref ht, .int (nI u.2), .ref hcol, .ref hk, .int (nI m), .ref hs, .ref hb, .ref hr, .ref ho, .ref hn, .ref hl])), (ht, ar dA 256 u.1), (hcol, ar dA 256 colX), (hk, ar dA 256 kpX), (hs, .inr (1, [.ref hc])), (hc, ar dA 264 cnt), (hb, ai dA 257 bd), (hr, ar dA 260 rt), (ho, ar dA 260 od), (hn, ar dA 257 nm), (hl, ar dA 256 lk), (g, .inr (2, [.ref gt, .ref gst, .ref gcol, .ref gk, .int (nI z), .int (nI m)])), (gt, ar dA 256 t), (gst, ar dA 256 st), (gcol, ar dA 256 colM), (gk, ar dA 256 kpM)]) (fun _ => rfl) (by decide) q66 q67 q68 q9 q69 nam_X0_put rfl rfl rfl (by decide) (by decide) (by first | omega | (dsimp only; omega)) (by first | omega | (dsimp only; omega)) rfl (Nat.le_of_ble_eq_true rfl) dL_law_93 (fun r0 u0 hp0 => ?_)
          refine w_aload_n F dL_law_96 2 rfl ?_
          refine w_aload_n F dL_law_97 0 rfl ?_
          refine w_iload_n F dL_law_98 3 rfl ?_
          refine w_iconst F (nI 1) dL_law_99 (by decide) ?_
          refine w_iadd F dL_law_100 ?_
          refine w_sld F hX hbl hbA dL_law_101 (by omega) (by omega) ?_
          refine w_aload_n F dL_law_102 0 rfl ?_
          refine w_iload_n F dL_law_103 3 rfl ?_
          refine w_iconst F (nI 2) dL_law_104 (by decide) ?_
          refine w_iadd F dL_law_105 ?_
          refine w_sld F hX hbl hbA dL_law_106 (by omega) (by omega) ?_
          refine w_aload_n F dL_law_107 0 rfl ?_
          refine w_iload_n F dL_law_108 3 rfl ?_
          refine w_iconst F (nI 3) dL_law_109 (by decide) ?_
          refine w_iadd F dL_law_110 ?_
          refine w_sld F hX hbl hbA dL_law_111 (by omega) (by omega) ?_
          refine w_aload_n F dL_law_112 0 rfl ?_
          refine w_iload_n F dL_law_113 3 rfl ?_
          refine w_iconst F (nI 4) dL_law_114 (by decide) ?_
          refine w_iadd F dL_law_115 ?_
          refine w_sld F hX hbl hbA dL_law_116 (by omega) (by omega) ?_
          refine w_callVI F (wr := [(h, .inr (0, [.ref ht, .int (nI u0.2), .ref hcol, .ref hk, .int (nI m), .ref hs, .ref hb, .ref hr, .ref ho, .ref hn, .ref hl])), (ht, ar dA 256 u0.1), (hcol, ar dA 256 colX), (hk, ar dA 256 kpX), (hs, .inr (1, [.ref hc])), (hc, ar dA 264 cnt), (hb, ai dA 257 bd), (hr, ar dA 260 rt), (ho, ar dA 260 od), (hn, ar dA 257 nm), (hl, ar dA 256 lk), (gst, ar dA 256 st), (gcol, ar dA 256 colM), (gk, ar dA 256 kpM)]) (q0 := 0) (met_X2_put l D dA g gt gst gcol gk t z m (xs (i + 1)) (xs (i + 2)) (xs (i + 3)) (xs (i + 4)) hz) [11, 12] [0, 1, 2, 3, 4, 5, 6, 7, 8, 9, 10, 13, 14, 15] ⟨rfl, by decide, rfl, by decide, by decide⟩ [0, 1, 2, 3, 4, 5, 6, 7, 8, 9, 10, 14, 15, 11, 12, 13] (fun u => [(h, .inr (0, [.ref ht, .int (nI u0.2), .ref hcol, .ref hk, .int (nI m), .ref hs, .ref hb, .ref hr, .ref ho, .ref hn, .ref hl])), (ht, ar dA 256 u0.1), (hcol, ar dA 256 colX), (hk, ar dA 256 kpX), (hs, .inr (1, [.ref hc])), (hc, ar dA 264 cnt), (hb, ai dA 257 bd), (hr, ar dA 260 rt), (ho, ar dA 260 od), (hn, ar dA 257 nm), (hl, ar dA 256 lk), (g, .inr (2, [.ref gt, .ref gst, .ref gcol, .ref gk, .int (nI u.2), .int (nI m)])), (gt, ar dA 256 u.1), (gst, ar dA 256 st), (gcol, ar dA 256 colM), (gk, ar dA 256 kpM)]) (fun _ => rfl) (by decide) q158 q159 q160 q11 q161 nam_X2_put rfl rfl rfl (by decide) (by decide) (by first | omega | (dsimp only; omega)) (by first | omega | (dsimp only; omega)) rfl (Nat.le_of_ble_eq_true rfl) dL_law_117 (fun r1 u1 hp1 => ?_)
          obtain ⟨e1, e2, hI2⟩ := law_put hI hp0 hp1
          subst e2
          refine w_icmp_eqX F 228 dL_law_120 (by decide) (fun ce => ?_) (fun ce => ?_)
          · skip
            refine w_widen (k := 20 + 1024 * k + 1024) (n := 5000 + 5120 * k + 5120) (by first | omega | (dsimp only; omega)) (by first | omega | (dsimp only; omega)) ?_
            exact J228 u0.1 colX kpX cnt rt od nm lk st colM kpM bd u0.2 m hI2
          · skip
            exact absurd e1 ce
        · skip
          refine w_tabIn F 125 dL_law_32 (by decide) (by decide) rfl (by decide) ?_
          refine w_aload_n F dL_law_125 1 rfl ?_
          refine w_aload_n F dL_law_126 0 rfl ?_
          refine w_iload_n F dL_law_127 3 rfl ?_
          refine w_iconst F (nI 1) dL_law_128 (by decide) ?_
          refine w_iadd F dL_law_129 ?_
          refine w_sld F hX hbl hbA dL_law_130 (by omega) (by omega) ?_
          refine w_aload_n F dL_law_131 0 rfl ?_
          refine w_iload_n F dL_law_132 3 rfl ?_
          refine w_iconst F (nI 2) dL_law_133 (by decide) ?_
          refine w_iadd F dL_law_134 ?_
          refine w_sld F hX hbl hbA dL_law_135 (by omega) (by omega) ?_
          refine w_callVI F (wr := [(hcol, ar dA 256 colX), (hk, ar dA 256 kpX), (hs, .inr (1, [.ref hc])), (hc, ar dA 264 cnt), (hb, ai dA 257 bd), (hr, ar dA 260 rt), (ho, ar dA 260 od), (hn, ar dA 257 nm), (hl, ar dA 256 lk), (g, .inr (2, [.ref gt, .ref gst, .ref gcol, .ref gk, .int (nI z), .int (nI m)])), (gt, ar dA 256 t), (gst, ar dA 256 st), (gcol, ar dA 256 colM), (gk, ar dA 256 kpM)]) (q0 := 0) (met_X0_repeat l D dA h ht hcol hk hs hb hr ho hn hl t z m (xs (i + 1)) (xs (i + 2)) hz) [0, 1] [2, 3, 4, 5, 6, 7, 8, 9, 10, 11, 12, 13, 14, 15] ⟨rfl, by decide, rfl, by decide, by decide⟩ [14, 15, 0, 1, 2, 3, 4, 5, 6, 7, 8, 9, 10, 11, 12, 13] (fun u => [(h, .inr (0, [.ref ht, .int (nI u.2), .ref hcol, .ref hk, .int (nI m), .ref hs, .ref hb, .ref hr, .ref ho, .ref hn, .ref hl])), (ht, ar dA 256 u.1), (hcol, ar dA 256 colX), (hk, ar dA 256 kpX), (hs, .inr (1, [.ref hc])), (hc, ar dA 264 cnt), (hb, ai dA 257 bd), (hr, ar dA 260 rt), (ho, ar dA 260 od), (hn, ar dA 257 nm), (hl, ar dA 256 lk), (g, .inr (2, [.ref gt, .ref gst, .ref gcol, .ref gk, .int (nI z), .int (nI m)])), (gt, ar dA 256 t), (gst, ar dA 256 st), (gcol, ar dA 256 colM), (gk, ar dA 256 kpM)]) (fun _ => rfl) (by decide) q70 q71 q72 q9 q73 nam_X0_repeat rfl rfl rfl (by decide) (by decide) (by first | omega | (dsimp only; omega)) (by first | omega | (dsimp only; omega)) rfl (Nat.le_of_ble_eq_true rfl) dL_law_136 (fun r0 u0 hp0 => ?_)
          refine w_aload_n F dL_law_139 2 rfl ?_
          refine w_aload_n F dL_law_140 0 rfl ?_
          refine w_iload_n F dL_law_141 3 rfl ?_
          refine w_iconst F (nI 1) dL_law_142 (by decide) ?_
          refine w_iadd F dL_law_143 ?_
          refine w_sld F hX hbl hbA dL_law_144 (by omega) (by omega) ?_
          refine w_aload_n F dL_law_145 0 rfl ?_
          refine w_iload_n F dL_law_146 3 rfl ?_
          refine w_iconst F (nI 2) dL_law_147 (by decide) ?_
          refine w_iadd F dL_law_148 ?_
          refine w_sld F hX hbl hbA dL_law_149 (by omega) (by omega) ?_
          refine w_callVI F (wr := [(h, .inr (0, [.ref ht, .int (nI u0.2), .ref hcol, .ref hk, .int (nI m), .ref hs, .ref hb, .ref hr, .ref ho, .ref hn, .ref hl])), (ht, ar dA 256 u0.1), (hcol, ar dA 256 colX), (hk, ar dA 256 kpX), (hs, .inr (1, [.ref hc])), (hc, ar dA 264 cnt), (hb, ai dA 257 bd), (hr, ar dA 260 rt), (ho, ar dA 260 od), (hn, ar dA 257 nm), (hl, ar dA 256 lk), (gst, ar dA 256 st), (gcol, ar dA 256 colM), (gk, ar dA 256 kpM)]) (q0 := 0) (met_X2_repeat l D dA g gt gst gcol gk t z m (xs (i + 1)) (xs (i + 2)) hz) [11, 12] [0, 1, 2, 3, 4, 5, 6, 7, 8, 9, 10, 13, 14, 15] ⟨rfl, by decide, rfl, by decide, by decide⟩ [0, 1, 2, 3, 4, 5, 6, 7, 8, 9, 10, 14, 15, 11, 12, 13] (fun u => [(h, .inr (0, [.ref ht, .int (nI u0.2), .ref hcol, .ref hk, .int (nI m), .ref hs, .ref hb, .ref hr, .ref ho, .ref hn, .ref hl])), (ht, ar dA 256 u0.1), (hcol, ar dA 256 colX), (hk, ar dA 256 kpX), (hs, .inr (1, [.ref hc])), (hc, ar dA 264 cnt), (hb, ai dA 257 bd), (hr, ar dA 260 rt), (ho, ar dA 260 od), (hn, ar dA 257 nm), (hl, ar dA 256 lk), (g, .inr (2, [.ref gt, .ref gst, .ref gcol, .ref gk, .int (nI u.2), .int (nI m)])), (gt, ar dA 256 u.1), (gst, ar dA 256 st), (gcol, ar dA 256 colM), (gk, ar dA 256 kpM)]) (fun _ => rfl) (by decide) q162 q163 q164 q11 q165 nam_X2_repeat rfl rfl rfl (by decide) (by decide) (by first | omega | (dsimp only; omega)) (by first | omega | (dsimp only; omega)) rfl (Nat.le_of_ble_eq_true rfl) dL_law_150 (fun r1 u1 hp1 => ?_)
          obtain ⟨e1, e2, hI2⟩ := law_rep hI hp0 hp1
          subst e2
          refine w_icmp_eqX F 228 dL_law_153 (by decide) (fun ce => ?_) (fun ce => ?_)
          · skip
            refine w_widen (k := 20 + 1024 * k + 1024) (n := 5000 + 5120 * k + 5120) (by first | omega | (dsimp only; omega)) (by first | omega | (dsimp only; omega)) ?_
            exact J228 u0.1 colX kpX cnt rt od nm lk st colM kpM bd u0.2 m hI2
          · skip
            exact absurd e1 ce
        · skip
          refine w_tabIn F 158 dL_law_32 (by decide) (by decide) rfl (by decide) ?_
          refine w_aload_n F dL_law_158 1 rfl ?_
          refine w_callVI F (wr := [(g, .inr (2, [.ref gt, .ref gst, .ref gcol, .ref gk, .int (nI z), .int (nI m)])), (gt, ar dA 256 t), (gst, ar dA 256 st), (gcol, ar dA 256 colM), (gk, ar dA 256 kpM)]) (q0 := 0) (met_X0_turn l D dA h ht hcol hk hs hb hr ho hn hl hc t colX kpX cnt rt od nm lk bd z m hz hT hrb) [0, 1, 2, 3, 4, 5, 6, 7, 8, 9, 10] [11, 12, 13, 14, 15] ⟨rfl, by decide, rfl, by decide, by decide⟩ [5, 6, 7, 8, 9, 10, 11, 12, 13, 14, 15, 0, 1, 2, 3, 4] (fun u => [(h, .inr (0, [.ref ht, .int (nI z), .ref hcol, .ref hk, .int (nI u.2.2.1), .ref hs, .ref hb, .ref hr, .ref ho, .ref hn, .ref hl])), (ht, ar dA 256 t), (hcol, ar dA 256 u.1), (hk, ar dA 256 u.2.1), (hs, .inr (1, [.ref hc])), (hc, ar dA 264 u.2.2.2.1), (hb, ai dA 257 u.2.2.2.2.1), (hr, ar dA 260 u.2.2.2.2.2.1), (ho, ar dA 260 u.2.2.2.2.2.2.1), (hn, ar dA 257 u.2.2.2.2.2.2.2.1), (hl, ar dA 256 u.2.2.2.2.2.2.2.2), (g, .inr (2, [.ref gt, .ref gst, .ref gcol, .ref gk, .int (nI z), .int (nI m)])), (gt, ar dA 256 t), (gst, ar dA 256 st), (gcol, ar dA 256 colM), (gk, ar dA 256 kpM)]) (fun _ => rfl) (by decide) q78 q79 q80 q9 q81 nam_X0_turn rfl rfl rfl (by decide) (by decide) (by first | omega | (dsimp only; omega)) (by first | omega | (dsimp only; omega)) rfl (Nat.le_of_ble_eq_true rfl) dL_law_159 (fun r0 u0 hp0 => ?_)
          obtain ⟨colX1, kpX1, mX, cnt1, bd1, rt1, od1, nm1, lk1⟩ := u0
          refine w_ws ([(h, .inr (0, [.ref ht, .int (nI z), .ref hcol, .ref hk, .int (nI mX), .ref hs, .ref hb, .ref hr, .ref ho, .ref hn, .ref hl])), (ht, ar dA 256 t), (hcol, ar dA 256 colX1), (hk, ar dA 256 kpX1), (hs, .inr (1, [.ref hc])), (hc, ar dA 264 cnt1), (hb, ai dA 257 bd1), (hr, ar dA 260 rt1), (ho, ar dA 260 od1), (hn, ar dA 257 nm1), (hl, ar dA 256 lk1), (g, .inr (2, [.ref gt, .ref gst, .ref gcol, .ref gk, .int (nI z), .int (nI m)])), (gt, ar dA 256 t), (gst, ar dA 256 st), (gcol, ar dA 256 colM), (gk, ar dA 256 kpM)]) rfl ?_
          refine w_aload_n F dL_law_162 2 rfl ?_
          refine w_callVI F (wr := [(h, .inr (0, [.ref ht, .int (nI z), .ref hcol, .ref hk, .int (nI mX), .ref hs, .ref hb, .ref hr, .ref ho, .ref hn, .ref hl])), (ht, ar dA 256 t), (hcol, ar dA 256 colX1), (hk, ar dA 256 kpX1), (hs, .inr (1, [.ref hc])), (hc, ar dA 264 cnt1), (hb, ai dA 257 bd1), (hr, ar dA 260 rt1), (ho, ar dA 260 od1), (hn, ar dA 257 nm1), (hl, ar dA 256 lk1)]) (q0 := 0) (met_X2_turn l D dA g gt gst gcol gk t st colM kpM z m hz hT) [11, 12, 13, 14, 15] [0, 1, 2, 3, 4, 5, 6, 7, 8, 9, 10] ⟨rfl, by decide, rfl, by decide, by decide⟩ [0, 1, 2, 3, 4, 5, 6, 7, 8, 9, 10, 11, 12, 13, 14, 15] (fun u => [(h, .inr (0, [.ref ht, .int (nI z), .ref hcol, .ref hk, .int (nI mX), .ref hs, .ref hb, .ref hr, .ref ho, .ref hn, .ref hl])), (ht, ar dA 256 t), (hcol, ar dA 256 colX1), (hk, ar dA 256 kpX1), (hs, .inr (1, [.ref hc])), (hc, ar dA 264 cnt1), (hb, ai dA 257 bd1), (hr, ar dA 260 rt1), (ho, ar dA 260 od1), (hn, ar dA 257 nm1), (hl, ar dA 256 lk1), (g, .inr (2, [.ref gt, .ref gst, .ref gcol, .ref gk, .int (nI z), .int (nI u.2.2.2)])), (gt, ar dA 256 t), (gst, ar dA 256 u.1), (gcol, ar dA 256 u.2.1), (gk, ar dA 256 u.2.2.1)]) (fun _ => rfl) (by decide) q167 q168 q169 q11 q170 nam_X2_turn rfl rfl rfl (by decide) (by decide) (by first | omega | (dsimp only; omega)) (by first | omega | (dsimp only; omega)) rfl (Nat.le_of_ble_eq_true rfl) dL_law_163 (fun r1 u1 hp1 => ?_)
          obtain ⟨st1, colM1, kpM1, mM⟩ := u1
          refine w_ws ([(h, .inr (0, [.ref ht, .int (nI z), .ref hcol, .ref hk, .int (nI mX), .ref hs, .ref hb, .ref hr, .ref ho, .ref hn, .ref hl])), (ht, ar dA 256 t), (hcol, ar dA 256 colX1), (hk, ar dA 256 kpX1), (hs, .inr (1, [.ref hc])), (hc, ar dA 264 cnt1), (hb, ai dA 257 bd1), (hr, ar dA 260 rt1), (ho, ar dA 260 od1), (hn, ar dA 257 nm1), (hl, ar dA 256 lk1), (g, .inr (2, [.ref gt, .ref gst, .ref gcol, .ref gk, .int (nI z), .int (nI mM)])), (gt, ar dA 256 t), (gst, ar dA 256 st1), (gcol, ar dA 256 colM1), (gk, ar dA 256 kpM1)]) rfl ?_
          obtain ⟨e1, e2, hI2⟩ := law_turn hI hp0.1 hp0.2 hp1
          have e2 : mX = mM := e2
          subst e2
          refine w_ws ([(h, .inr (0, [.ref ht, .int (nI z), .ref hcol, .ref hk, .int (nI mX), .ref hs, .ref hb, .ref hr, .ref ho, .ref hn, .ref hl])), (ht, ar dA 256 t), (hcol, ar dA 256 colX1), (hk, ar dA 256 kpX1), (hs, .inr (1, [.ref hc])), (hc, ar dA 264 cnt1), (hb, ai dA 257 bd1), (hr, ar dA 260 rt1), (ho, ar dA 260 od1), (hn, ar dA 257 nm1), (hl, ar dA 256 lk1), (g, .inr (2, [.ref gt, .ref gst, .ref gcol, .ref gk, .int (nI z), .int (nI mX)])), (gt, ar dA 256 t), (gst, ar dA 256 st1), (gcol, ar dA 256 colM1), (gk, ar dA 256 kpM1)]) rfl ?_
          refine w_icmp_eqX F 228 dL_law_166 (by decide) (fun ce => ?_) (fun ce => ?_)
          · skip
            refine w_widen (k := 20 + 1024 * k + 1024) (n := 5000 + 5120 * k + 5120) (by first | omega | (dsimp only; omega)) (by first | omega | (dsimp only; omega)) ?_
            exact J228 t colX1 kpX1 cnt1 rt1 od1 nm1 lk1 st1 colM1 kpM1 bd1 z mX hI2
          · skip
            exact absurd e1 ce
        · skip
          refine w_tabIn F 171 dL_law_32 (by decide) (by decide) rfl (by decide) ?_
          refine w_aload_n F dL_law_171 1 rfl ?_
          refine w_aload_n F dL_law_172 0 rfl ?_
          refine w_iload_n F dL_law_173 3 rfl ?_
          refine w_iconst F (nI 1) dL_law_174 (by decide) ?_
          refine w_iadd F dL_law_175 ?_
          refine w_sld F hX hbl hbA dL_law_176 (by omega) (by omega) ?_
          refine w_callVI F (wr := [(ht, ar dA 256 t), (hk, ar dA 256 kpX), (hs, .inr (1, [.ref hc])), (hc, ar dA 264 cnt), (hb, ai dA 257 bd), (hr, ar dA 260 rt), (ho, ar dA 260 od), (hn, ar dA 257 nm), (hl, ar dA 256 lk), (g, .inr (2, [.ref gt, .ref gst, .ref gcol, .ref gk, .int (nI z), .int (nI m)])), (gt, ar dA 256 t), (gst, ar dA 256 st), (gcol, ar dA 256 colM), (gk, ar dA 256 kpM)]) (q0 := 0) (met_X0_at l D dA h ht hcol hk hs hb hr ho hn hl colX z m (xs (i + 1)) hm) [0, 2] [1, 3, 4, 5, 6, 7, 8, 9, 10, 11, 12, 13, 14, 15] ⟨rfl, by decide, rfl, by decide, by decide⟩ [14, 0, 15, 1, 2, 3, 4, 5, 6, 7, 8, 9, 10, 11, 12, 13] (fun _ => [(h, .inr (0, [.ref ht, .int (nI z), .ref hcol, .ref hk, .int (nI m), .ref hs, .ref hb, .ref hr, .ref ho, .ref hn, .ref hl])), (ht, ar dA 256 t), (hcol, ar dA 256 colX), (hk, ar dA 256 kpX), (hs, .inr (1, [.ref hc])), (hc, ar dA 264 cnt), (hb, ai dA 257 bd), (hr, ar dA 260 rt), (ho, ar dA 260 od), (hn, ar dA 257 nm), (hl, ar dA 256 lk), (g, .inr (2, [.ref gt, .ref gst, .ref gcol, .ref gk, .int (nI z), .int (nI m)])), (gt, ar dA 256 t), (gst, ar dA 256 st), (gcol, ar dA 256 colM), (gk, ar dA 256 kpM)]) (fun _ => rfl) (by decide) q121 q122 q123 q9 q124 nam_X0_at rfl rfl rfl (by decide) (by decide) (by first | omega | (dsimp only; omega)) (by first | omega | (dsimp only; omega)) rfl (Nat.le_of_ble_eq_true rfl) dL_law_177 (fun r0 u0 hp0 => ?_)
          refine w_aload_n F dL_law_180 2 rfl ?_
          refine w_aload_n F dL_law_181 0 rfl ?_
          refine w_iload_n F dL_law_182 3 rfl ?_
          refine w_iconst F (nI 1) dL_law_183 (by decide) ?_
          refine w_iadd F dL_law_184 ?_
          refine w_sld F hX hbl hbA dL_law_185 (by omega) (by omega) ?_
          refine w_callVI F (wr := [(h, .inr (0, [.ref ht, .int (nI z), .ref hcol, .ref hk, .int (nI m), .ref hs, .ref hb, .ref hr, .ref ho, .ref hn, .ref hl])), (ht, ar dA 256 t), (hcol, ar dA 256 colX), (hk, ar dA 256 kpX), (hs, .inr (1, [.ref hc])), (hc, ar dA 264 cnt), (hb, ai dA 257 bd), (hr, ar dA 260 rt), (ho, ar dA 260 od), (hn, ar dA 257 nm), (hl, ar dA 256 lk), (gt, ar dA 256 t), (gst, ar dA 256 st), (gk, ar dA 256 kpM)]) (q0 := 0) (met_X2_at l D dA g gt gst gcol gk colM z m (xs (i + 1)) hm) [11, 14] [0, 1, 2, 3, 4, 5, 6, 7, 8, 9, 10, 12, 13, 15] ⟨rfl, by decide, rfl, by decide, by decide⟩ [0, 1, 2, 3, 4, 5, 6, 7, 8, 9, 10, 14, 11, 12, 15, 13] (fun _ => [(h, .inr (0, [.ref ht, .int (nI z), .ref hcol, .ref hk, .int (nI m), .ref hs, .ref hb, .ref hr, .ref ho, .ref hn, .ref hl])), (ht, ar dA 256 t), (hcol, ar dA 256 colX), (hk, ar dA 256 kpX), (hs, .inr (1, [.ref hc])), (hc, ar dA 264 cnt), (hb, ai dA 257 bd), (hr, ar dA 260 rt), (ho, ar dA 260 od), (hn, ar dA 257 nm), (hl, ar dA 256 lk), (g, .inr (2, [.ref gt, .ref gst, .ref gcol, .ref gk, .int (nI z), .int (nI m)])), (gt, ar dA 256 t), (gst, ar dA 256 st), (gcol, ar dA 256 colM), (gk, ar dA 256 kpM)]) (fun _ => rfl) (by decide) q175 q176 q177 q11 q178 nam_X2_at rfl rfl rfl (by decide) (by decide) (by first | omega | (dsimp only; omega)) (by first | omega | (dsimp only; omega)) rfl (Nat.le_of_ble_eq_true rfl) dL_law_186 (fun r1 u1 hp1 => ?_)
          refine w_icmp_eqX F 228 dL_law_189 (by decide) (fun ce => ?_) (fun ce => ?_)
          · skip
            refine w_widen (k := 20 + 1024 * k + 1024) (n := 5000 + 5120 * k + 5120) (by first | omega | (dsimp only; omega)) (by first | omega | (dsimp only; omega)) ?_
            exact J228 t colX kpX cnt rt od nm lk st colM kpM bd z m hI
          · skip
            exact absurd (at_same jcol hp0 hp1) ce
        · skip
          refine w_tabIn F 194 dL_law_32 (by decide) (by decide) rfl (by decide) ?_
          refine w_aload_n F dL_law_194 1 rfl ?_
          refine w_aload_n F dL_law_195 0 rfl ?_
          refine w_iload_n F dL_law_196 3 rfl ?_
          refine w_iconst F (nI 1) dL_law_197 (by decide) ?_
          refine w_iadd F dL_law_198 ?_
          refine w_sld F hX hbl hbA dL_law_199 (by omega) (by omega) ?_
          refine w_callVI F (wr := [(ht, ar dA 256 t), (hcol, ar dA 256 colX), (hs, .inr (1, [.ref hc])), (hc, ar dA 264 cnt), (hb, ai dA 257 bd), (hr, ar dA 260 rt), (ho, ar dA 260 od), (hn, ar dA 257 nm), (hl, ar dA 256 lk), (g, .inr (2, [.ref gt, .ref gst, .ref gcol, .ref gk, .int (nI z), .int (nI m)])), (gt, ar dA 256 t), (gst, ar dA 256 st), (gcol, ar dA 256 colM), (gk, ar dA 256 kpM)]) (q0 := 0) (met_X0_back l D dA h ht hcol hk hs hb hr ho hn hl kpX z m (xs (i + 1)) hm) [0, 3] [1, 2, 4, 5, 6, 7, 8, 9, 10, 11, 12, 13, 14, 15] ⟨rfl, by decide, rfl, by decide, by decide⟩ [14, 0, 1, 15, 2, 3, 4, 5, 6, 7, 8, 9, 10, 11, 12, 13] (fun _ => [(h, .inr (0, [.ref ht, .int (nI z), .ref hcol, .ref hk, .int (nI m), .ref hs, .ref hb, .ref hr, .ref ho, .ref hn, .ref hl])), (ht, ar dA 256 t), (hcol, ar dA 256 colX), (hk, ar dA 256 kpX), (hs, .inr (1, [.ref hc])), (hc, ar dA 264 cnt), (hb, ai dA 257 bd), (hr, ar dA 260 rt), (ho, ar dA 260 od), (hn, ar dA 257 nm), (hl, ar dA 256 lk), (g, .inr (2, [.ref gt, .ref gst, .ref gcol, .ref gk, .int (nI z), .int (nI m)])), (gt, ar dA 256 t), (gst, ar dA 256 st), (gcol, ar dA 256 colM), (gk, ar dA 256 kpM)]) (fun _ => rfl) (by decide) q125 q126 q127 q9 q128 nam_X0_back rfl rfl rfl (by decide) (by decide) (by first | omega | (dsimp only; omega)) (by first | omega | (dsimp only; omega)) rfl (Nat.le_of_ble_eq_true rfl) dL_law_200 (fun r0 u0 hp0 => ?_)
          refine w_aload_n F dL_law_203 2 rfl ?_
          refine w_aload_n F dL_law_204 0 rfl ?_
          refine w_iload_n F dL_law_205 3 rfl ?_
          refine w_iconst F (nI 1) dL_law_206 (by decide) ?_
          refine w_iadd F dL_law_207 ?_
          refine w_sld F hX hbl hbA dL_law_208 (by omega) (by omega) ?_
          refine w_callVI F (wr := [(h, .inr (0, [.ref ht, .int (nI z), .ref hcol, .ref hk, .int (nI m), .ref hs, .ref hb, .ref hr, .ref ho, .ref hn, .ref hl])), (ht, ar dA 256 t), (hcol, ar dA 256 colX), (hk, ar dA 256 kpX), (hs, .inr (1, [.ref hc])), (hc, ar dA 264 cnt), (hb, ai dA 257 bd), (hr, ar dA 260 rt), (ho, ar dA 260 od), (hn, ar dA 257 nm), (hl, ar dA 256 lk), (gt, ar dA 256 t), (gst, ar dA 256 st), (gcol, ar dA 256 colM)]) (q0 := 0) (met_X2_back l D dA g gt gst gcol gk kpM z m (xs (i + 1)) hm) [11, 15] [0, 1, 2, 3, 4, 5, 6, 7, 8, 9, 10, 12, 13, 14] ⟨rfl, by decide, rfl, by decide, by decide⟩ [0, 1, 2, 3, 4, 5, 6, 7, 8, 9, 10, 14, 11, 12, 13, 15] (fun _ => [(h, .inr (0, [.ref ht, .int (nI z), .ref hcol, .ref hk, .int (nI m), .ref hs, .ref hb, .ref hr, .ref ho, .ref hn, .ref hl])), (ht, ar dA 256 t), (hcol, ar dA 256 colX), (hk, ar dA 256 kpX), (hs, .inr (1, [.ref hc])), (hc, ar dA 264 cnt), (hb, ai dA 257 bd), (hr, ar dA 260 rt), (ho, ar dA 260 od), (hn, ar dA 257 nm), (hl, ar dA 256 lk), (g, .inr (2, [.ref gt, .ref gst, .ref gcol, .ref gk, .int (nI z), .int (nI m)])), (gt, ar dA 256 t), (gst, ar dA 256 st), (gcol, ar dA 256 colM), (gk, ar dA 256 kpM)]) (fun _ => rfl) (by decide) q179 q180 q181 q11 q182 nam_X2_back rfl rfl rfl (by decide) (by decide) (by first | omega | (dsimp only; omega)) (by first | omega | (dsimp only; omega)) rfl (Nat.le_of_ble_eq_true rfl) dL_law_209 (fun r1 u1 hp1 => ?_)
          refine w_icmp_eqX F 228 dL_law_212 (by decide) (fun ce => ?_) (fun ce => ?_)
          · skip
            refine w_widen (k := 20 + 1024 * k + 1024) (n := 5000 + 5120 * k + 5120) (by first | omega | (dsimp only; omega)) (by first | omega | (dsimp only; omega)) ?_
            exact J228 t colX kpX cnt rt od nm lk st colM kpM bd z m hI
          · skip
            exact absurd (at_same jkp hp0 hp1) ce
        · skip
          refine w_tabIn F 217 dL_law_32 (by decide) (by decide) rfl (by decide) ?_
          refine w_aload_n F dL_law_217 1 rfl ?_
          refine w_callVV F (wr := [(ht, ar dA 256 t), (hcol, ar dA 256 colX), (hk, ar dA 256 kpX), (hs, .inr (1, [.ref hc])), (hc, ar dA 264 cnt), (hb, ai dA 257 bd), (hr, ar dA 260 rt), (ho, ar dA 260 od), (hn, ar dA 257 nm), (hl, ar dA 256 lk), (g, .inr (2, [.ref gt, .ref gst, .ref gcol, .ref gk, .int (nI z), .int (nI m)])), (gt, ar dA 256 t), (gst, ar dA 256 st), (gcol, ar dA 256 colM), (gk, ar dA 256 kpM)]) (q0 := 0) (met_X0_clear l D dA h ht hcol hk hs hb hr ho hn hl z m) [0] [1, 2, 3, 4, 5, 6, 7, 8, 9, 10, 11, 12, 13, 14, 15] ⟨rfl, by decide, rfl, by decide, by decide⟩ [15, 0, 1, 2, 3, 4, 5, 6, 7, 8, 9, 10, 11, 12, 13, 14] (fun _ => [(h, .inr (0, [.ref ht, .int (nI 0), .ref hcol, .ref hk, .int (nI m), .ref hs, .ref hb, .ref hr, .ref ho, .ref hn, .ref hl])), (ht, ar dA 256 t), (hcol, ar dA 256 colX), (hk, ar dA 256 kpX), (hs, .inr (1, [.ref hc])), (hc, ar dA 264 cnt), (hb, ai dA 257 bd), (hr, ar dA 260 rt), (ho, ar dA 260 od), (hn, ar dA 257 nm), (hl, ar dA 256 lk), (g, .inr (2, [.ref gt, .ref gst, .ref gcol, .ref gk, .int (nI z), .int (nI m)])), (gt, ar dA 256 t), (gst, ar dA 256 st), (gcol, ar dA 256 colM), (gk, ar dA 256 kpM)]) (fun _ => rfl) (by decide) q129 q130 q131 q9 q132 nam_X0_clear rfl rfl rfl (by decide) (by decide) (by first | omega | (dsimp only; omega)) (by first | omega | (dsimp only; omega)) rfl (Nat.le_of_ble_eq_true rfl) dL_law_218 (fun u0 hp0 => ?_)
          refine w_aload_n F dL_law_221 2 rfl ?_
          refine w_callVV F (wr := [(h, .inr (0, [.ref ht, .int (nI 0), .ref hcol, .ref hk, .int (nI m), .ref hs, .ref hb, .ref hr, .ref ho, .ref hn, .ref hl])), (ht, ar dA 256 t), (hcol, ar dA 256 colX), (hk, ar dA 256 kpX), (hs, .inr (1, [.ref hc])), (hc, ar dA 264 cnt), (hb, ai dA 257 bd), (hr, ar dA 260 rt), (ho, ar dA 260 od), (hn, ar dA 257 nm), (hl, ar dA 256 lk), (gt, ar dA 256 t), (gst, ar dA 256 st), (gcol, ar dA 256 colM), (gk, ar dA 256 kpM)]) (q0 := 0) (met_X2_clear l D dA g gt gst gcol gk z m) [11] [0, 1, 2, 3, 4, 5, 6, 7, 8, 9, 10, 12, 13, 14, 15] ⟨rfl, by decide, rfl, by decide, by decide⟩ [0, 1, 2, 3, 4, 5, 6, 7, 8, 9, 10, 15, 11, 12, 13, 14] (fun _ => [(h, .inr (0, [.ref ht, .int (nI 0), .ref hcol, .ref hk, .int (nI m), .ref hs, .ref hb, .ref hr, .ref ho, .ref hn, .ref hl])), (ht, ar dA 256 t), (hcol, ar dA 256 colX), (hk, ar dA 256 kpX), (hs, .inr (1, [.ref hc])), (hc, ar dA 264 cnt), (hb, ai dA 257 bd), (hr, ar dA 260 rt), (ho, ar dA 260 od), (hn, ar dA 257 nm), (hl, ar dA 256 lk), (g, .inr (2, [.ref gt, .ref gst, .ref gcol, .ref gk, .int (nI 0), .int (nI m)])), (gt, ar dA 256 t), (gst, ar dA 256 st), (gcol, ar dA 256 colM), (gk, ar dA 256 kpM)]) (fun _ => rfl) (by decide) q183 q184 q185 q11 q186 nam_X2_clear rfl rfl rfl (by decide) (by decide) (by first | omega | (dsimp only; omega)) (by first | omega | (dsimp only; omega)) rfl (Nat.le_of_ble_eq_true rfl) dL_law_222 (fun u1 hp1 => ?_)
          refine w_goto F 228 dL_law_225 (by decide) ?_
          refine w_widen (k := 20 + 1024 * k + 1024) (n := 5000 + 5120 * k + 5120) (by first | omega | (dsimp only; omega)) (by first | omega | (dsimp only; omega)) ?_
          exact J228 t colX kpX cnt rt od nm lk st colM kpM bd 0 m ⟨hT, by omega, hm, hrb, jcol, jkp⟩
        · skip
          have hov : (nI v).toInt < 0 ∨ 5 < (nI v).toInt := by
            rw [nI_toInt (by omega)]
            omega
          refine w_tabOut F 228 dL_law_32 hov (by decide) ?_
          refine w_widen (k := 20 + 1024 * k + 1024) (n := 5000 + 5120 * k + 5120) (by first | omega | (dsimp only; omega)) (by first | omega | (dsimp only; omega)) ?_
          exact J228 t colX kpX cnt rt od nm lk st colM kpM bd z m hI
  refine w_new F [.null, .int (nI 0), .null, .null, .int (nI 0), .null, .null, .null, .null, .null, .null] in_X0 tyX0 tyX0_ok q13 q14 q9 (ci := 0) rfl df_X0 (by decide) (by decide) dL_law_0 (fun h => ?_)
  refine w_ws ([(h, .inr (0, [.null, .int (nI 0), .null, .null, .int (nI 0), .null, .null, .null, .null, .null, .null]))]) rfl ?_
  refine w_dup F dL_law_3 rfl ?_
  refine w_callIV F (wr := []) (As := []) (met_X0_init l D dA h) [0] [] ⟨rfl, by decide, rfl, by decide, by decide⟩ [0, 1, 2, 3, 4, 5, 6, 7, 8, 9, 10] (fun u => [(h, .inr (0, [.ref u.1, .int (nI 0), .ref u.2.1, .ref u.2.2.1, .int (nI 0), .ref u.2.2.2.1, .ref u.2.2.2.2.2.1, .ref u.2.2.2.2.2.2.1, .ref u.2.2.2.2.2.2.2.1, .ref u.2.2.2.2.2.2.2.2.1, .ref u.2.2.2.2.2.2.2.2.2])), (u.1, ar dA 256 (fun _ => 0)), (u.2.1, ar dA 256 (fun _ => 0)), (u.2.2.1, ar dA 256 (fun _ => 0)), (u.2.2.2.1, .inr (1, [.ref u.2.2.2.2.1])), (u.2.2.2.2.1, ar dA 264 (fun _ => 0)), (u.2.2.2.2.2.1, ar dA 257 (fun _ => 0)), (u.2.2.2.2.2.2.1, ar dA 260 (fun _ => 0)), (u.2.2.2.2.2.2.2.1, ar dA 260 (fun _ => 0)), (u.2.2.2.2.2.2.2.2.1, ar dA 257 (fun _ => 0)), (u.2.2.2.2.2.2.2.2.2, ar dA 256 (fun _ => 0))]) (fun _ => rfl) (by decide) q15 q16 q9 q17 rfl nam_X0_init (by decide) (by decide) (by decide) (by decide) rfl (Nat.le_of_ble_eq_true rfl) dL_law_4 (fun u0 hp0 => ?_)
  obtain ⟨ht, hcol, hk, hs, hc, hb, hr, ho, hn, hl⟩ := u0
  refine w_ws ([(h, .inr (0, [.ref ht, .int (nI 0), .ref hcol, .ref hk, .int (nI 0), .ref hs, .ref hb, .ref hr, .ref ho, .ref hn, .ref hl])), (ht, ar dA 256 (fun _ => 0)), (hcol, ar dA 256 (fun _ => 0)), (hk, ar dA 256 (fun _ => 0)), (hs, .inr (1, [.ref hc])), (hc, ar dA 264 (fun _ => 0)), (hb, ar dA 257 (fun _ => 0)), (hr, ar dA 260 (fun _ => 0)), (ho, ar dA 260 (fun _ => 0)), (hn, ar dA 257 (fun _ => 0)), (hl, ar dA 256 (fun _ => 0))]) rfl ?_
  refine w_astore_n F [(0, .ref b), (1, .ref h)] dL_law_7 (by decide) rfl rfl ?_
  refine w_new F [.null, .null, .null, .null, .int (nI 0), .int (nI 0)] in_X2 tyX2 tyX2_ok q133 q134 q11 (ci := 2) rfl df_X2 (by decide) (by decide) dL_law_8 (fun g => ?_)
  refine w_ws ([(h, .inr (0, [.ref ht, .int (nI 0), .ref hcol, .ref hk, .int (nI 0), .ref hs, .ref hb, .ref hr, .ref ho, .ref hn, .ref hl])), (ht, ar dA 256 (fun _ => 0)), (hcol, ar dA 256 (fun _ => 0)), (hk, ar dA 256 (fun _ => 0)), (hs, .inr (1, [.ref hc])), (hc, ar dA 264 (fun _ => 0)), (hb, ar dA 257 (fun _ => 0)), (hr, ar dA 260 (fun _ => 0)), (ho, ar dA 260 (fun _ => 0)), (hn, ar dA 257 (fun _ => 0)), (hl, ar dA 256 (fun _ => 0)), (g, .inr (2, [.null, .null, .null, .null, .int (nI 0), .int (nI 0)]))]) rfl ?_
  refine w_dup F dL_law_11 rfl ?_
  refine w_callIV F (wr := [(h, .inr (0, [.ref ht, .int (nI 0), .ref hcol, .ref hk, .int (nI 0), .ref hs, .ref hb, .ref hr, .ref ho, .ref hn, .ref hl])), (ht, ar dA 256 (fun _ => 0)), (hcol, ar dA 256 (fun _ => 0)), (hk, ar dA 256 (fun _ => 0)), (hs, .inr (1, [.ref hc])), (hc, ar dA 264 (fun _ => 0)), (hb, ar dA 257 (fun _ => 0)), (hr, ar dA 260 (fun _ => 0)), (ho, ar dA 260 (fun _ => 0)), (hn, ar dA 257 (fun _ => 0)), (hl, ar dA 256 (fun _ => 0))]) (As := []) (met_X2_init l D dA g) [11] [0, 1, 2, 3, 4, 5, 6, 7, 8, 9, 10] ⟨rfl, by decide, rfl, by decide, by decide⟩ [0, 1, 2, 3, 4, 5, 6, 7, 8, 9, 10, 11, 12, 13, 14, 15] (fun u => [(h, .inr (0, [.ref ht, .int (nI 0), .ref hcol, .ref hk, .int (nI 0), .ref hs, .ref hb, .ref hr, .ref ho, .ref hn, .ref hl])), (ht, ar dA 256 (fun _ => 0)), (hcol, ar dA 256 (fun _ => 0)), (hk, ar dA 256 (fun _ => 0)), (hs, .inr (1, [.ref hc])), (hc, ar dA 264 (fun _ => 0)), (hb, ar dA 257 (fun _ => 0)), (hr, ar dA 260 (fun _ => 0)), (ho, ar dA 260 (fun _ => 0)), (hn, ar dA 257 (fun _ => 0)), (hl, ar dA 256 (fun _ => 0)), (g, .inr (2, [.ref u.1, .ref u.2.1, .ref u.2.2.1, .ref u.2.2.2, .int (nI 0), .int (nI 0)])), (u.1, ar dA 256 (fun _ => 0)), (u.2.1, ar dA 256 (fun _ => 0)), (u.2.2.1, ar dA 256 (fun _ => 0)), (u.2.2.2, ar dA 256 (fun _ => 0))]) (fun _ => rfl) (by decide) q135 q136 q11 q137 rfl nam_X2_init (by decide) (by decide) (by decide) (by decide) rfl (Nat.le_of_ble_eq_true rfl) dL_law_12 (fun u0 hp0 => ?_)
  obtain ⟨gt, gst, gcol, gk⟩ := u0
  refine w_ws ([(h, .inr (0, [.ref ht, .int (nI 0), .ref hcol, .ref hk, .int (nI 0), .ref hs, .ref hb, .ref hr, .ref ho, .ref hn, .ref hl])), (ht, ar dA 256 (fun _ => 0)), (hcol, ar dA 256 (fun _ => 0)), (hk, ar dA 256 (fun _ => 0)), (hs, .inr (1, [.ref hc])), (hc, ar dA 264 (fun _ => 0)), (hb, ar dA 257 (fun _ => 0)), (hr, ar dA 260 (fun _ => 0)), (ho, ar dA 260 (fun _ => 0)), (hn, ar dA 257 (fun _ => 0)), (hl, ar dA 256 (fun _ => 0)), (g, .inr (2, [.ref gt, .ref gst, .ref gcol, .ref gk, .int (nI 0), .int (nI 0)])), (gt, ar dA 256 (fun _ => 0)), (gst, ar dA 256 (fun _ => 0)), (gcol, ar dA 256 (fun _ => 0)), (gk, ar dA 256 (fun _ => 0))]) rfl ?_
  refine w_astore_n F [(0, .ref b), (1, .ref h), (2, .ref g)] dL_law_15 (by decide) rfl rfl ?_
  refine w_iconst F (nI 0) dL_law_16 (by decide) ?_
  refine w_istore_n F [(0, .ref b), (1, .ref h), (2, .ref g), (3, .int (nI 0))] dL_law_17 (by decide) rfl rfl ?_
  refine w_widen (k := 20 + 1024 * 0) (n := 5000 + 5120 * 0) (by decide) (by decide) ?_
  exact L18 h ht hcol hk hs hc hb hr ho hn hl g gt gst gcol gk (L + 2) 0 0 (fun _ => 0) (fun _ => 0) (fun _ => 0) (fun _ => 0) (fun _ => 0) (fun _ => 0) (fun _ => 0) (fun _ => 0) (fun _ => 0) (fun _ => 0) (fun _ => 0) (fun _ => nI 0) 0 0 rfl (Nat.zero_le L) (by omega) ⟨fun _ => Nat.succ_pos 255, by decide, by decide, fun _ => Nat.succ_pos 999, fun _ _ => rfl, fun _ _ => rfl⟩
/-- the classes and the array class, known at the claim's start -/
theorem law_K {s : State} {b : Nat} (ht0 : ∀ w ∈ lw_tbl, w.before #[Value.ref b] s = true) : ∃ (D : va_G) (dA : ClassId), va_K D vwCl [(dA, .int)] s := by
  obtain ⟨c0, i0, k0⟩ := u_known (C := RX0) (T := TX0) (N := 11) (n := 11) ht0 (fun w h => lw_all_tbl (in_X0 w h)) (ht0 _ (lw_all_tbl q14))
  obtain ⟨c1, i1, k1⟩ := u_known (C := RX1) (T := TX1) (N := 1) (n := 1) ht0 (fun w h => lw_all_tbl (in_X1 w h)) (ht0 _ (lw_all_tbl q22))
  obtain ⟨c2, i2, k2⟩ := u_known (C := RX2) (T := TX2) (N := 6) (n := 6) ht0 (fun w h => lw_all_tbl (in_X2 w h)) (ht0 _ (lw_all_tbl q134))
  obtain ⟨cA, kA, comp, hfind, hk, hkind⟩ := Cond.arrayClass_spec (ht0 _ (lw_all_tbl q31))
  refine ⟨(fun k => if k = 0 then c0 else if k = 1 then c1 else c2, fun k => if k = 0 then i0 else if k = 1 then i1 else i2), cA, ?_, ?_⟩
  · intro k q hq
    match k, hq with
    | 0, hq => cases hq; exact k0
    | 1, hq => cases hq; exact k1
    | 2, hq => cases hq; exact k2
    | k + 3, hq => simp [vwCl] at hq
  · intro k q hq
    match k, hq with
    | 0, hq =>
      cases hq
      exact ⟨fun n z => ⟨fun k h => (by cases h), kA, hk, comp, hkind⟩, hfind⟩
    | k + 1, hq => simp at hq
theorem whole_start {p : Program} {e : Env} {s : State} {m : MethodId} {below : List Frame} {meth : Method} {c : Code} (l : Launch) {b L : Nat} {xs : Nat → Int32} (hL : L ≤ 320) (C0 : lw_At p s m meth c b L xs) : W p l e room_1 s m #[Value.ref b] below meth c s.heap [] 0 0 (lw_Z below #[Value.ref b] s) (entryFrame m ([Value.ref b] : List Value).toArray 4) := by
  obtain ⟨hx, hb, hr, hml, hown, hts0, hX, hbl, hlocks, -⟩ := C0
  obtain ⟨D, dA, hK⟩ := law_K hts0
  have F : FX (p, l, e, room_1, s, m, #[Value.ref b], below, meth, c) l D dA (fun q => s.heap.size ≤ q) cL_law 4 R_law ret room_1 := ⟨hx, hb, hml, hown, fun w h => hts0 w (lw_all_tbl h), hK, fun q h => h, hr, hlocks, rfl, rfl, va_Nw.of rfl (hts0 _ q23)⟩
  rw [lg_entry_eq]
  refine law_walk (Q := lw_Z below #[Value.ref b] s) F hL hX hbl (fun h => Nat.lt_irrefl _ (Nat.lt_of_lt_of_le hbl h)) ?_ s.heap [] _ (fun k q hk => by simp at hk) ⟨fun i j x y hi => by simp at hi, fun k q hk => by simp at hk⟩ va_S.rf (lv_entry [.ref b] (Nat.le_of_ble_eq_true rfl))
  intro ws cells slots lv h1 h2 H locs ls hP hD hS hl
  refine va_forget (fun q hq => hS.2.2 q hq) (W.widen h1 h2 ?_)
  exact lw_ret hx hb hr hlocks dL_law_235
end
section
set_option maxHeartbeats 4000000 in
theorem lw_walk (l : Launch) (b : Addr) (xs : List Int32) : MetFree l x (headSpec (Jvm.Cond.code x code maxLocals ret :: tables_1) room_1) (lw_P b xs) (fun _ _ _ _ _ => True) lw_Q := by
  refine MetFree.of_bodyS (code := code) (maxLocals := maxLocals) (ret := ret) (by decide) ?_ ?_
  · intro args s m h hn
    obtain ⟨meth, c, h1, h2, h3, h4, h5, h6, -, -⟩ := Cond.code_spec hn (atoms_spec (ws := Jvm.Cond.code x code maxLocals ret :: tables_1) h _ List.mem_cons_self)
    exact ⟨meth, c, h1, h2, h3, h4, h5, h6⟩
  · intro p e s m args below meth c s₁ B hml0 hP _
    obtain ⟨rfl, hx, hbd, hgv⟩ := hP
    obtain ⟨scr, harrAt, hlist, hof, hsmall⟩ := hx
    obtain ⟨hcb, hkn, -, -⟩ := State.arrayAt?_spec harrAt
    have hown : s.vm.findClass R_law = some m.cls := findClass_of_methodNamed B.named
    have hts0 : ∀ c ∈ (Jvm.Cond.code x code maxLocals ret :: tables_1), c.before #[Value.ref b] s = true := atoms_spec (ws := Jvm.Cond.code x code maxLocals ret :: tables_1) B.pre
    have hts : ∀ w ∈ lw_tbl, w.before #[Value.ref b] s = true := k2_hts_sels lw_privs (fun w hw => hts0 w (List.mem_cons_of_mem _ hw)) lw_privs_ok
    have hml : c.maxLocals = 4 := B.maxLocals_eq (hts0 _ List.mem_cons_self)
    have X₀ : Stand p l e room_1 s m #[Value.ref b] below meth c s₁ [] 0 0 := Stand.of_body B
    have hh0 : s₁.heap = s.heap := by rw [B.state]; rfl
    have hsz : scr.slots.size = xs.length := by rw [← Array.length_toList, hlist, List.length_map]
    have hval : ∀ j : Nat, j < xs.length → scr.slots[j]? = some (.int (xs.getD j 0)) := fun j hj => by
      rw [← Array.getElem?_toList, hlist]
      simp [hj]
    have hbl : b < s.heap.size := (Array.getElem?_eq_some_iff.mp hcb).1
    have hX : va_X b xs.length (fun j => xs.getD j 0) s s.heap := ⟨scr, hcb, hof, hkn, hsz, hval⟩
    have K : W p l e room_1 s m #[Value.ref b] below meth c s₁.heap [] 0 0 (lw_Z below #[Value.ref b] s) (entryFrame m ([Value.ref b] : List Value).toArray 4) := by
      rw [hh0]
      exact whole_start l hbd ⟨B.exec, B.bytes, B.returns, hml, hown, hts, hX, hbl, B.notSynchronized, hgv⟩
    obtain ⟨t, a1, o, b1, b2, b3⟩ := K s₁ rfl X₀
    exact ⟨t, o, a1, b1, b2, b3⟩
theorem lw_pre_spec {args : Array Value} {s : State} (h : (Jvm.Cond.and given_1 narrow_1).before args s = true) (hr : rest_1_c.before args s = true) : ∃ (b : Addr) (xs : List Int32), lw_P b xs args s := by
  have hs := flat_of_before _ h
  have hq := flat_of_before _ hr
  have hc : (Cond.count 1).before args s = true := hs _ (by decide +kernel)
  have harr : (Cond.arrayOf (.arg 0) .int).before args s = true := hs _ (by decide +kernel)
  have hle : (Cond.le (.length (.arg 0)) (.int 320)).before args s = true := hs _ (by decide +kernel)
  have hlen : (Cond.isInt (.length (.arg 0))).before args s = true := hq _ (by decide +kernel)
  have hall : (Cond.all (.arg 0) (.isInt (.elem (.arg 0) (.index 0)))).before args s = true := hq _ (by decide +kernel)
  obtain ⟨b, xs, hb, hx⟩ := State.ints_of_pre rfl harr hlen hall
  have hsm : xs.length < 2 ^ 31 := hx.choose_spec.2.2.2
  have hev : (Term.length (.arg 0)).eval args s none [] s = some (.int xs.length.toInt32) := hx.length_eval hb
  have hv := Cond.le_ints hev (show (Term.int 320).eval args s none [] s = some (.int 320) from rfl)
  have hd : xs.length.toInt32 ≤ 320 := by
    simpa [Cond.before, Cond.holds, hv] using hle
  have hN : xs.length ≤ 320 := (Int32.ofNat_le_ofNat hsm (by decide)).mp (show Int32.ofNat xs.length ≤ Int32.ofNat 320 from hd)
  exact ⟨b, xs, Cond.one_arg hc (show args[0]? = some (.ref b) from hb), hx, hN, h⟩
theorem lw_comes (l : Launch) : Comes l x (Jvm.Cond.code x code maxLocals ret :: tables_1) room_1 (fun tb e args s => Calls_1 tb e args s ∧ rest_1 tb e args s ∧ Pre_1 tb e args s)
    (fun _ _ args s o t => lw_Q args s o t) := by
  intro p e ha hc hk s m args below hf hfit hheap happ hpre
  obtain ⟨b, xs, hP⟩ := lw_pre_spec hpre.2.2 hpre.2.1
  obtain ⟨k, o, h1, h2, h3, hQ⟩ := lw_walk l b xs p e ha hc hk s m args below hf ((Spec.applies_iff_loose hf).mp happ).1 hP trivial
  exact ⟨k, o, h1, h2, h3, hQ⟩
theorem lw_frame {s t : State} {o : Outcome} {args : Array Value} (h : Framed s o t [] 600000 7302250) :
    Framed s o t (fieldLocs frame_1_writes args s ++ arrayLocs frame_1_arrays args s ++ staticLocs frame_1_statics s) 600000 7302250 := h
theorem lw_limb (L : Cond) (hL : ∀ (args : Array Value) (s t : State), L.after args s (.returned (some (.int 1))) t = true) :
    ArmFor flags0 classFile x code maxLocals ret World_1 tables_1 room_1 Calls_1 rest_1 Pre_1
      (fun tb e a s o t => postC L tb e a s o t ∧ Framed s o t (fieldLocs frame_1_writes a s ++ arrayLocs frame_1_arrays a s ++ staticLocs frame_1_statics s) 600000 7302250) := by
  intro l _ _ _ p e ha hc hk s m args below hf hfit hheap happ hpre
  obtain ⟨k, o, h1, h2, h3, rfl, hF⟩ := lw_comes l p e ha hc hk s m args below hf hfit hheap happ hpre
  exact ⟨k, _, h1, h2, h3, hL args s _, lw_frame hF⟩
theorem i_vc : Claimed_1_1 ∧ Claimed_1_2 := ⟨lw_limb limb_1_1 (fun args s t => by simp [limb_1_1, Cond.after, Cond.holds, Cond.value]), lw_limb limb_1_2 (fun args s t => Cond.after_iff.mpr (by
  first | (rw [show limb_1_2 = Cond.eq .result (.int 1) from rfl, Cond.eq_ints (x := 1) (y := 1) rfl rfl]; simp; done) | (simp [limb_1_2, Cond.value, Term.eval]; done)))⟩
end
