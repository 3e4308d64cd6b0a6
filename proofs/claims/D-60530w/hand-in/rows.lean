section
-- ===== PART A: goes FIRST, ahead of the names: the tables' words, and 'selects' of the private methods out of them =====
/-- a private method of a class that the tables say can be made, by its rows of tables_1 -/
def lw_okq (q : MethodName × Nat) : Prop := (q.1.cls ≠ "java/lang/invoke/MethodHandle" ∧ q.1.cls ≠ "java/lang/invoke/VarHandle") ∧ Cond.instantiable q.1.cls q.2 ∈ tables_1 ∧ Cond.privateMethod q.1 ∈ tables_1 ∧ Cond.instanceMethod q.1 ∈ tables_1
set_option maxRecDepth 100000
theorem lw_p0 : lw_okq (⟨"PosetWidth", "pairs", "()I"⟩, 7) := ⟨⟨by decide +kernel, by decide +kernel⟩, List.mem_of_getElem? (i := 4) rfl, List.mem_of_getElem? (i := 42) rfl, List.mem_of_getElem? (i := 43) rfl⟩
theorem lw_p1 : lw_okq (⟨"PosetWidth", "widthOf", "(I)I"⟩, 7) := ⟨⟨by decide +kernel, by decide +kernel⟩, List.mem_of_getElem? (i := 4) rfl, List.mem_of_getElem? (i := 61) rfl, List.mem_of_getElem? (i := 62) rfl⟩
theorem lw_p2 : lw_okq (⟨"PosetWidth", "lengthen", "(II)Z"⟩, 7) := ⟨⟨by decide +kernel, by decide +kernel⟩, List.mem_of_getElem? (i := 4) rfl, List.mem_of_getElem? (i := 65) rfl, List.mem_of_getElem? (i := 66) rfl⟩
theorem lw_p3 : lw_okq (⟨"PosetWidth", "spread", "(II)I"⟩, 7) := ⟨⟨by decide +kernel, by decide +kernel⟩, List.mem_of_getElem? (i := 4) rfl, List.mem_of_getElem? (i := 69) rfl, List.mem_of_getElem? (i := 70) rfl⟩
theorem lw_p4 : lw_okq (⟨"PosetWidth", "turnWay", "(I)V"⟩, 7) := ⟨⟨by decide +kernel, by decide +kernel⟩, List.mem_of_getElem? (i := 4) rfl, List.mem_of_getElem? (i := 73) rfl, List.mem_of_getElem? (i := 74) rfl⟩
theorem lw_p5 : lw_okq (⟨"PosetWidth", "besides", "(I)I"⟩, 7) := ⟨⟨by decide +kernel, by decide +kernel⟩, List.mem_of_getElem? (i := 4) rfl, List.mem_of_getElem? (i := 81) rfl, List.mem_of_getElem? (i := 82) rfl⟩
theorem lw_p6 : lw_okq (⟨"PosetWidth", "longest", "(I)I"⟩, 7) := ⟨⟨by decide +kernel, by decide +kernel⟩, List.mem_of_getElem? (i := 4) rfl, List.mem_of_getElem? (i := 101) rfl, List.mem_of_getElem? (i := 102) rfl⟩
theorem lw_p7 : lw_okq (⟨"PosetWidth", "firstOnes", "(I)I"⟩, 7) := ⟨⟨by decide +kernel, by decide +kernel⟩, List.mem_of_getElem? (i := 4) rfl, List.mem_of_getElem? (i := 105) rfl, List.mem_of_getElem? (i := 106) rfl⟩
theorem lw_p8 : lw_okq (⟨"PosetWidthModel", "pairs", "()I"⟩, 1) := ⟨⟨by decide +kernel, by decide +kernel⟩, List.mem_of_getElem? (i := 114) rfl, List.mem_of_getElem? (i := 132) rfl, List.mem_of_getElem? (i := 133) rfl⟩
theorem lw_p9 : lw_okq (⟨"PosetWidthModel", "size", "(IIZ)I"⟩, 1) := ⟨⟨by decide +kernel, by decide +kernel⟩, List.mem_of_getElem? (i := 114) rfl, List.mem_of_getElem? (i := 148) rfl, List.mem_of_getElem? (i := 149) rfl⟩
theorem lw_p10 : lw_okq (⟨"PosetWidthModel", "greatest", "(IIZ)I"⟩, 1) := ⟨⟨by decide +kernel, by decide +kernel⟩, List.mem_of_getElem? (i := 114) rfl, List.mem_of_getElem? (i := 152) rfl, List.mem_of_getElem? (i := 153) rfl⟩
theorem lw_p11 : lw_okq (⟨"PosetWidthModel", "fits", "(IZ)Z"⟩, 1) := ⟨⟨by decide +kernel, by decide +kernel⟩, List.mem_of_getElem? (i := 114) rfl, List.mem_of_getElem? (i := 156) rfl, List.mem_of_getElem? (i := 157) rfl⟩
def lw_privs_1 : List (MethodName × Nat) := [(⟨"PosetWidth", "pairs", "()I"⟩, 7), (⟨"PosetWidth", "widthOf", "(I)I"⟩, 7), (⟨"PosetWidth", "lengthen", "(II)Z"⟩, 7), (⟨"PosetWidth", "spread", "(II)I"⟩, 7), (⟨"PosetWidth", "turnWay", "(I)V"⟩, 7), (⟨"PosetWidth", "besides", "(I)I"⟩, 7), (⟨"PosetWidth", "longest", "(I)I"⟩, 7), (⟨"PosetWidth", "firstOnes", "(I)I"⟩, 7), (⟨"PosetWidthModel", "pairs", "()I"⟩, 1), (⟨"PosetWidthModel", "size", "(IIZ)I"⟩, 1), (⟨"PosetWidthModel", "greatest", "(IIZ)I"⟩, 1), (⟨"PosetWidthModel", "fits", "(IZ)Z"⟩, 1)]
theorem lw_r1 : ∀ q ∈ lw_privs_1, lw_okq q := List.forall_mem_cons.mpr ⟨lw_p0, List.forall_mem_cons.mpr ⟨lw_p1, List.forall_mem_cons.mpr ⟨lw_p2, List.forall_mem_cons.mpr ⟨lw_p3, List.forall_mem_cons.mpr ⟨lw_p4, List.forall_mem_cons.mpr ⟨lw_p5, List.forall_mem_cons.mpr ⟨lw_p6, List.forall_mem_cons.mpr ⟨lw_p7, List.forall_mem_cons.mpr ⟨lw_p8, List.forall_mem_cons.mpr ⟨lw_p9, List.forall_mem_cons.mpr ⟨lw_p10, List.forall_mem_cons.mpr ⟨lw_p11, fun _ h => absurd h List.not_mem_nil⟩⟩⟩⟩⟩⟩⟩⟩⟩⟩⟩⟩
def lw_privs : List (MethodName × Nat) := lw_privs_1
def lw_tbl : List Cond := k2_sels lw_privs ++ tables_1
theorem lw_privs_ok : ∀ q ∈ lw_privs, lw_okq q := lw_r1
-- ===== ONE list of words for every method: the tables' words that hold all through a run =====
def lw_all : List Cond := lw_tbl.filter goodWord
/-- a word of the tables by its place: claim/WORDS.tsv -/
theorem lw_w {w : Cond} (i : Nat) (h : lw_tbl[i]? = some w) (g : goodWord w = true) : w ∈ lw_all := List.mem_filter.mpr ⟨List.mem_of_getElem? h, g⟩
theorem lw_all_tbl {w : Cond} (h : w ∈ lw_all) : w ∈ lw_tbl := (List.mem_filter.mp h).1
theorem lw_self : GoodIn lw_all lw_all := fun w h => ⟨h, good_of_word (List.mem_filter.mp h).2⟩
/-- a class's field words, by their places -/
theorem lw_in (ws : List Cond) (ps : List Nat) (hp : ws = ps.filterMap (fun i => lw_tbl[i]?)) (hg : ws.all goodWord = true) : ∀ w ∈ ws, w ∈ lw_all := by
  intro w h
  have h1 := List.all_eq_true.mp hg w h
  rw [hp] at h
  obtain ⟨i, -, hi⟩ := List.mem_filterMap.mp h
  exact lw_w i hi h1
/-- the words of a contract for the method y with code b, L locals, answer r -/
abbrev ws_ (y : MethodName) (b : ByteArray) (L : Nat) (r : Option FieldType) : List Cond := Cond.code y b L r :: lw_all
theorem lw_meth {y : MethodName} {b : ByteArray} {L : Nat} {r : Option FieldType} (h : Cond.code y b L r ∈ lw_all) : GoodIn lw_all (ws_ y b L r) := by
  intro w hw
  rcases List.mem_cons.mp hw with e | e
  · rw [e]
    exact lw_self _ h
  · exact lw_self _ e
theorem lw_app {a c : List Cond} (ha : ∀ w ∈ a, w ∈ lw_all) (hc : GoodIn lw_all c) : GoodIn lw_all (a ++ c) := by
  intro w hw
  rcases List.mem_append.mp hw with e | e
  · exact lw_self w (ha w e)
  · exact hc w e
/-- what a call through an object asks: cwV n hts (lw_V ..) -/
theorem lw_V {own : String} {idx : Nat} {C : String} {y : MethodName} {b : ByteArray} {L : Nat} {r : Option FieldType} (h1 : Cond.methodLink own idx y ∈ lw_all) (h2 : Cond.instanceMethod y ∈ lw_all) (h3 : Cond.selects C y y ∈ lw_all) (h4 : Cond.initialized C ∈ lw_all) (h5 : Cond.code y b L r ∈ lw_all) : GoodIn lw_all (wsV own idx C y (ws_ y b L r)) := by
  refine lw_app ?_ (lw_meth h5)
  intro w hw
  simp only [List.mem_cons, List.not_mem_nil, or_false] at hw
  rcases hw with e | e | e | e
  · rw [e]; exact h1
  · rw [e]; exact h2
  · rw [e]; exact h3
  · rw [e]; exact h4
/-- what a static call asks: va_cwS n hts (lw_S ..) -/
theorem lw_S {own : String} {idx : Nat} {y : MethodName} {b : ByteArray} {L : Nat} {r : Option FieldType} (h1 : Cond.methodLink own idx y ∈ lw_all) (h2 : Cond.static y ∈ lw_all) (h3 : Cond.initialized y.cls ∈ lw_all) (h4 : Cond.code y b L r ∈ lw_all) : GoodIn lw_all (va_wsS own idx y (ws_ y b L r)) := by
  refine lw_app ?_ (lw_meth h4)
  intro w hw
  simp only [List.mem_cons, List.not_mem_nil, or_false] at hw
  rcases hw with e | e | e
  · rw [e]; exact h1
  · rw [e]; exact h2
  · rw [e]; exact h3
/-- the words of a contract for a method WITH HANDLERS (hh: its table) -/
abbrev wsW_ (y : MethodName) (b : ByteArray) (L : Nat) (r : Option FieldType) (hh : List (Nat × Nat × Nat × Nat)) : List Cond := Cond.codeWith y b L r hh :: lw_all
theorem lw_methW {y : MethodName} {b : ByteArray} {L : Nat} {r : Option FieldType} {hh : List (Nat × Nat × Nat × Nat)} (h : Cond.codeWith y b L r hh ∈ lw_all) : GoodIn lw_all (wsW_ y b L r hh) := by
  intro w hw
  rcases List.mem_cons.mp hw with e | e
  · rw [e]
    exact lw_self _ h
  · exact lw_self _ e
/-- any list of words by their places (lw_in), good -/
theorem lw_good {ws : List Cond} (h : ∀ w ∈ ws, w ∈ lw_all) : GoodIn lw_all ws := fun w hw => lw_self w (h w hw)
/-- what a call of a method with handlers asks: vx_cwVW n hts (lw_VW ..), vx_cwSW n hts (lw_SW ..) -/
theorem lw_VW {own : String} {idx : Nat} {C : String} {y : MethodName} {b : ByteArray} {L : Nat} {r : Option FieldType} {hh : List (Nat × Nat × Nat × Nat)} (h1 : Cond.methodLink own idx y ∈ lw_all) (h2 : Cond.instanceMethod y ∈ lw_all) (h3 : Cond.selects C y y ∈ lw_all) (h4 : Cond.initialized C ∈ lw_all) (h5 : Cond.codeWith y b L r hh ∈ lw_all) : GoodIn lw_all (wsV own idx C y (wsW_ y b L r hh)) := by
  refine lw_app ?_ (lw_methW h5)
  intro w hw
  simp only [List.mem_cons, List.not_mem_nil, or_false] at hw
  rcases hw with e | e | e | e
  · rw [e]; exact h1
  · rw [e]; exact h2
  · rw [e]; exact h3
  · rw [e]; exact h4
theorem lw_SW {own : String} {idx : Nat} {y : MethodName} {b : ByteArray} {L : Nat} {r : Option FieldType} {hh : List (Nat × Nat × Nat × Nat)} (h1 : Cond.methodLink own idx y ∈ lw_all) (h2 : Cond.static y ∈ lw_all) (h3 : Cond.initialized y.cls ∈ lw_all) (h4 : Cond.codeWith y b L r hh ∈ lw_all) : GoodIn lw_all (va_wsS own idx y (wsW_ y b L r hh)) := by
  refine lw_app ?_ (lw_methW h4)
  intro w hw
  simp only [List.mem_cons, List.not_mem_nil, or_false] at hw
  rcases hw with e | e | e
  · rw [e]; exact h1
  · rw [e]; exact h2
  · rw [e]; exact h3
/-- a word by its place in its run of the tables -/
theorem lw_at {r : List Cond} (hr : ∀ w ∈ r, w ∈ lw_tbl) {w : Cond} (i : Nat) (h : r[i]? = some w) : w ∈ lw_tbl := hr w (List.mem_of_getElem? h)
theorem lw_g {w : Cond} (h : w ∈ lw_tbl) (g : goodWord w = true) : w ∈ lw_all := List.mem_filter.mpr ⟨h, g⟩
theorem lw_ms : ∀ w ∈ k2_sels lw_privs, w ∈ lw_tbl := fun w h => show w ∈ k2_sels lw_privs ++ tables_1 from List.mem_append_left _ h
theorem lw_m0 : ∀ w ∈ tables_1, w ∈ lw_tbl := fun w h => show w ∈ k2_sels lw_privs ++ tables_1 from List.mem_append_right (k2_sels lw_privs) h
theorem qs0 : (Cond.selects "PosetWidth" ⟨"PosetWidth", "pairs", "()I"⟩ ⟨"PosetWidth", "pairs", "()I"⟩) ∈ lw_all := lw_g (lw_at lw_ms 0 rfl) rfl
theorem qs1 : (Cond.selects "PosetWidth" ⟨"PosetWidth", "widthOf", "(I)I"⟩ ⟨"PosetWidth", "widthOf", "(I)I"⟩) ∈ lw_all := lw_g (lw_at lw_ms 1 rfl) rfl
theorem qs2 : (Cond.selects "PosetWidth" ⟨"PosetWidth", "lengthen", "(II)Z"⟩ ⟨"PosetWidth", "lengthen", "(II)Z"⟩) ∈ lw_all := lw_g (lw_at lw_ms 2 rfl) rfl
theorem qs3 : (Cond.selects "PosetWidth" ⟨"PosetWidth", "spread", "(II)I"⟩ ⟨"PosetWidth", "spread", "(II)I"⟩) ∈ lw_all := lw_g (lw_at lw_ms 3 rfl) rfl
theorem qs4 : (Cond.selects "PosetWidth" ⟨"PosetWidth", "turnWay", "(I)V"⟩ ⟨"PosetWidth", "turnWay", "(I)V"⟩) ∈ lw_all := lw_g (lw_at lw_ms 4 rfl) rfl
theorem qs5 : (Cond.selects "PosetWidth" ⟨"PosetWidth", "besides", "(I)I"⟩ ⟨"PosetWidth", "besides", "(I)I"⟩) ∈ lw_all := lw_g (lw_at lw_ms 5 rfl) rfl
theorem qs6 : (Cond.selects "PosetWidth" ⟨"PosetWidth", "longest", "(I)I"⟩ ⟨"PosetWidth", "longest", "(I)I"⟩) ∈ lw_all := lw_g (lw_at lw_ms 6 rfl) rfl
theorem qs7 : (Cond.selects "PosetWidth" ⟨"PosetWidth", "firstOnes", "(I)I"⟩ ⟨"PosetWidth", "firstOnes", "(I)I"⟩) ∈ lw_all := lw_g (lw_at lw_ms 7 rfl) rfl
theorem qs8 : (Cond.selects "PosetWidthModel" ⟨"PosetWidthModel", "pairs", "()I"⟩ ⟨"PosetWidthModel", "pairs", "()I"⟩) ∈ lw_all := lw_g (lw_at lw_ms 8 rfl) rfl
theorem qs9 : (Cond.selects "PosetWidthModel" ⟨"PosetWidthModel", "size", "(IIZ)I"⟩ ⟨"PosetWidthModel", "size", "(IIZ)I"⟩) ∈ lw_all := lw_g (lw_at lw_ms 9 rfl) rfl
theorem qs10 : (Cond.selects "PosetWidthModel" ⟨"PosetWidthModel", "greatest", "(IIZ)I"⟩ ⟨"PosetWidthModel", "greatest", "(IIZ)I"⟩) ∈ lw_all := lw_g (lw_at lw_ms 10 rfl) rfl
theorem qs11 : (Cond.selects "PosetWidthModel" ⟨"PosetWidthModel", "fits", "(IZ)Z"⟩ ⟨"PosetWidthModel", "fits", "(IZ)Z"⟩) ∈ lw_all := lw_g (lw_at lw_ms 11 rfl) rfl
end
section
/-! java/lang/Object -/
set_option maxRecDepth 100000
def RJ0 : String := "java/lang/Object"
abbrev cJ0_init : ByteArray := object_method_1_code
def yJ0_init : MethodName := ⟨RJ0, "<init>", "()V"⟩
theorem dJ0_init_0 : decode cJ0_init 0 = .ok (.return_, 1) := by decide +kernel
theorem q21 : (Jvm.Cond.instanceMethod ({ cls := "java/lang/Object", name := "<init>", desc := "()V" } : Jvm.MethodName)) ∈ lw_all := lw_g (lw_at lw_m0 9 rfl) rfl
theorem q22 : (Jvm.Cond.code ({ cls := "java/lang/Object", name := "<init>", desc := "()V" } : Jvm.MethodName) object_method_1_code (1 : Nat) (Option.none : Option Jvm.ClassFile.FieldType)) ∈ lw_all := lw_g (lw_at lw_m0 10 rfl) rfl
/-! PosetWidth -/
set_option maxRecDepth 100000
def RX0 : String := "PosetWidth"
def TX0 : u_T := fun k => match k with
  | 0 => ("PosetWidth", "after", "[I", true)
  | 1 => ("PosetWidth", "ahead", "[I", true)
  | 2 => ("PosetWidth", "nextOf", "[I", true)
  | 3 => ("PosetWidth", "previousOf", "[I", true)
  | 4 => ("PosetWidth", "reachedFrom", "[I", true)
  | 5 => ("PosetWidth", "queue", "[I", true)
  | _ => ("PosetWidth", "queueEnd", "I", false)
def tyX0 : Nat → FieldType := fun k => match k with
  | 0 => .array .int
  | 1 => .array .int
  | 2 => .array .int
  | 3 => .array .int
  | 4 => .array .int
  | 5 => .array .int
  | _ => .int
abbrev wsX00 : List Cond := u_ws RX0 TX0 7
theorem nmX0 : ∀ a, a < 7 → ∀ b, b < 7 → a ≠ b → (TX0 a).2.1 ≠ (TX0 b).2.1 := by decide +kernel
theorem tyX0_ok : ∀ k, k < 7 → parseFieldDescriptor (TX0 k).2.2.1 = some (tyX0 k) := by decide +kernel
abbrev cX0_init : ByteArray := prog_1_method_1_code
def yX0_init : MethodName := ⟨RX0, "<init>", "()V"⟩
theorem dX0_init_0 : decode cX0_init 0 = .ok (.aload_n 0, 1) := by decide +kernel
theorem dX0_init_1 : decode cX0_init 1 = .ok (.invokespecial 1, 3) := by decide +kernel
theorem dX0_init_4 : decode cX0_init 4 = .ok (.aload_n 0, 1) := by decide +kernel
theorem dX0_init_5 : decode cX0_init 5 = .ok (.bipush 10, 2) := by decide +kernel
theorem dX0_init_7 : decode cX0_init 7 = .ok (.newarray .int, 2) := by decide +kernel
theorem dX0_init_9 : decode cX0_init 9 = .ok (.putfield 7, 3) := by decide +kernel
theorem dX0_init_12 : decode cX0_init 12 = .ok (.aload_n 0, 1) := by decide +kernel
theorem dX0_init_13 : decode cX0_init 13 = .ok (.bipush 10, 2) := by decide +kernel
theorem dX0_init_15 : decode cX0_init 15 = .ok (.newarray .int, 2) := by decide +kernel
theorem dX0_init_17 : decode cX0_init 17 = .ok (.putfield 13, 3) := by decide +kernel
theorem dX0_init_20 : decode cX0_init 20 = .ok (.aload_n 0, 1) := by decide +kernel
theorem dX0_init_21 : decode cX0_init 21 = .ok (.bipush 10, 2) := by decide +kernel
theorem dX0_init_23 : decode cX0_init 23 = .ok (.newarray .int, 2) := by decide +kernel
theorem dX0_init_25 : decode cX0_init 25 = .ok (.putfield 16, 3) := by decide +kernel
theorem dX0_init_28 : decode cX0_init 28 = .ok (.aload_n 0, 1) := by decide +kernel
theorem dX0_init_29 : decode cX0_init 29 = .ok (.bipush 10, 2) := by decide +kernel
theorem dX0_init_31 : decode cX0_init 31 = .ok (.newarray .int, 2) := by decide +kernel
theorem dX0_init_33 : decode cX0_init 33 = .ok (.putfield 19, 3) := by decide +kernel
theorem dX0_init_36 : decode cX0_init 36 = .ok (.aload_n 0, 1) := by decide +kernel
theorem dX0_init_37 : decode cX0_init 37 = .ok (.bipush 10, 2) := by decide +kernel
theorem dX0_init_39 : decode cX0_init 39 = .ok (.newarray .int, 2) := by decide +kernel
theorem dX0_init_41 : decode cX0_init 41 = .ok (.putfield 22, 3) := by decide +kernel
theorem dX0_init_44 : decode cX0_init 44 = .ok (.aload_n 0, 1) := by decide +kernel
theorem dX0_init_45 : decode cX0_init 45 = .ok (.bipush 10, 2) := by decide +kernel
theorem dX0_init_47 : decode cX0_init 47 = .ok (.newarray .int, 2) := by decide +kernel
theorem dX0_init_49 : decode cX0_init 49 = .ok (.putfield 25, 3) := by decide +kernel
theorem dX0_init_52 : decode cX0_init 52 = .ok (.return_, 1) := by decide +kernel
abbrev cX0_put : ByteArray := prog_1_method_2_code
def yX0_put : MethodName := ⟨RX0, "put", "(II)I"⟩
theorem dX0_put_0 : decode cX0_put 0 = .ok (.iload_n 1, 1) := by decide +kernel
theorem dX0_put_1 : decode cX0_put 1 = .ok (.invokestatic 28, 3) := by decide +kernel
theorem dX0_put_4 : decode cX0_put 4 = .ok (.ifCond .eq 28, 3) := by decide +kernel
theorem dX0_put_7 : decode cX0_put 7 = .ok (.iload_n 2, 1) := by decide +kernel
theorem dX0_put_8 : decode cX0_put 8 = .ok (.invokestatic 28, 3) := by decide +kernel
theorem dX0_put_11 : decode cX0_put 11 = .ok (.ifCond .eq 21, 3) := by decide +kernel
theorem dX0_put_14 : decode cX0_put 14 = .ok (.iload_n 1, 1) := by decide +kernel
theorem dX0_put_15 : decode cX0_put 15 = .ok (.iload_n 2, 1) := by decide +kernel
theorem dX0_put_16 : decode cX0_put 16 = .ok (.if_icmp .eq 16, 3) := by decide +kernel
theorem dX0_put_19 : decode cX0_put 19 = .ok (.aload_n 0, 1) := by decide +kernel
theorem dX0_put_20 : decode cX0_put 20 = .ok (.getfield 7, 3) := by decide +kernel
theorem dX0_put_23 : decode cX0_put 23 = .ok (.iload_n 2, 1) := by decide +kernel
theorem dX0_put_24 : decode cX0_put 24 = .ok (.iaload, 1) := by decide +kernel
theorem dX0_put_25 : decode cX0_put 25 = .ok (.iload_n 1, 1) := by decide +kernel
theorem dX0_put_26 : decode cX0_put 26 = .ok (.iushr, 1) := by decide +kernel
theorem dX0_put_27 : decode cX0_put 27 = .ok (.iconst 1, 1) := by decide +kernel
theorem dX0_put_28 : decode cX0_put 28 = .ok (.iand, 1) := by decide +kernel
theorem dX0_put_29 : decode cX0_put 29 = .ok (.ifCond .eq 5, 3) := by decide +kernel
theorem dX0_put_32 : decode cX0_put 32 = .ok (.iconst (-1), 1) := by decide +kernel
theorem dX0_put_33 : decode cX0_put 33 = .ok (.ireturn, 1) := by decide +kernel
theorem dX0_put_34 : decode cX0_put 34 = .ok (.aload_n 0, 1) := by decide +kernel
theorem dX0_put_35 : decode cX0_put 35 = .ok (.getfield 13, 3) := by decide +kernel
theorem dX0_put_38 : decode cX0_put 38 = .ok (.iload_n 1, 1) := by decide +kernel
theorem dX0_put_39 : decode cX0_put 39 = .ok (.iaload, 1) := by decide +kernel
theorem dX0_put_40 : decode cX0_put 40 = .ok (.iconst 1, 1) := by decide +kernel
theorem dX0_put_41 : decode cX0_put 41 = .ok (.iload_n 1, 1) := by decide +kernel
theorem dX0_put_42 : decode cX0_put 42 = .ok (.ishl, 1) := by decide +kernel
theorem dX0_put_43 : decode cX0_put 43 = .ok (.ior, 1) := by decide +kernel
theorem dX0_put_44 : decode cX0_put 44 = .ok (.istore_n 3, 1) := by decide +kernel
theorem dX0_put_45 : decode cX0_put 45 = .ok (.aload_n 0, 1) := by decide +kernel
theorem dX0_put_46 : decode cX0_put 46 = .ok (.getfield 7, 3) := by decide +kernel
theorem dX0_put_49 : decode cX0_put 49 = .ok (.iload_n 2, 1) := by decide +kernel
theorem dX0_put_50 : decode cX0_put 50 = .ok (.iaload, 1) := by decide +kernel
theorem dX0_put_51 : decode cX0_put 51 = .ok (.iconst 1, 1) := by decide +kernel
theorem dX0_put_52 : decode cX0_put 52 = .ok (.iload_n 2, 1) := by decide +kernel
theorem dX0_put_53 : decode cX0_put 53 = .ok (.ishl, 1) := by decide +kernel
theorem dX0_put_54 : decode cX0_put 54 = .ok (.ior, 1) := by decide +kernel
theorem dX0_put_55 : decode cX0_put 55 = .ok (.istore 4, 2) := by decide +kernel
theorem dX0_put_57 : decode cX0_put 57 = .ok (.iconst 0, 1) := by decide +kernel
theorem dX0_put_58 : decode cX0_put 58 = .ok (.istore 5, 2) := by decide +kernel
theorem dX0_put_60 : decode cX0_put 60 = .ok (.iload 5, 2) := by decide +kernel
theorem dX0_put_62 : decode cX0_put 62 = .ok (.bipush 10, 2) := by decide +kernel
theorem dX0_put_64 : decode cX0_put 64 = .ok (.if_icmp .ge 51, 3) := by decide +kernel
theorem dX0_put_67 : decode cX0_put 67 = .ok (.iload_n 3, 1) := by decide +kernel
theorem dX0_put_68 : decode cX0_put 68 = .ok (.iload 5, 2) := by decide +kernel
theorem dX0_put_70 : decode cX0_put 70 = .ok (.iushr, 1) := by decide +kernel
theorem dX0_put_71 : decode cX0_put 71 = .ok (.iconst 1, 1) := by decide +kernel
theorem dX0_put_72 : decode cX0_put 72 = .ok (.iand, 1) := by decide +kernel
theorem dX0_put_73 : decode cX0_put 73 = .ok (.ifCond .eq 15, 3) := by decide +kernel
theorem dX0_put_76 : decode cX0_put 76 = .ok (.aload_n 0, 1) := by decide +kernel
theorem dX0_put_77 : decode cX0_put 77 = .ok (.getfield 7, 3) := by decide +kernel
theorem dX0_put_80 : decode cX0_put 80 = .ok (.iload 5, 2) := by decide +kernel
theorem dX0_put_82 : decode cX0_put 82 = .ok (.dup2, 1) := by decide +kernel
theorem dX0_put_83 : decode cX0_put 83 = .ok (.iaload, 1) := by decide +kernel
theorem dX0_put_84 : decode cX0_put 84 = .ok (.iload 4, 2) := by decide +kernel
theorem dX0_put_86 : decode cX0_put 86 = .ok (.ior, 1) := by decide +kernel
theorem dX0_put_87 : decode cX0_put 87 = .ok (.iastore, 1) := by decide +kernel
theorem dX0_put_88 : decode cX0_put 88 = .ok (.iload 4, 2) := by decide +kernel
theorem dX0_put_90 : decode cX0_put 90 = .ok (.iload 5, 2) := by decide +kernel
theorem dX0_put_92 : decode cX0_put 92 = .ok (.iushr, 1) := by decide +kernel
theorem dX0_put_93 : decode cX0_put 93 = .ok (.iconst 1, 1) := by decide +kernel
theorem dX0_put_94 : decode cX0_put 94 = .ok (.iand, 1) := by decide +kernel
theorem dX0_put_95 : decode cX0_put 95 = .ok (.ifCond .eq 14, 3) := by decide +kernel
theorem dX0_put_98 : decode cX0_put 98 = .ok (.aload_n 0, 1) := by decide +kernel
theorem dX0_put_99 : decode cX0_put 99 = .ok (.getfield 13, 3) := by decide +kernel
theorem dX0_put_102 : decode cX0_put 102 = .ok (.iload 5, 2) := by decide +kernel
theorem dX0_put_104 : decode cX0_put 104 = .ok (.dup2, 1) := by decide +kernel
theorem dX0_put_105 : decode cX0_put 105 = .ok (.iaload, 1) := by decide +kernel
theorem dX0_put_106 : decode cX0_put 106 = .ok (.iload_n 3, 1) := by decide +kernel
theorem dX0_put_107 : decode cX0_put 107 = .ok (.ior, 1) := by decide +kernel
theorem dX0_put_108 : decode cX0_put 108 = .ok (.iastore, 1) := by decide +kernel
theorem dX0_put_109 : decode cX0_put 109 = .ok (.iinc 5 1, 3) := by decide +kernel
theorem dX0_put_112 : decode cX0_put 112 = .ok (.goto (-52), 3) := by decide +kernel
theorem dX0_put_115 : decode cX0_put 115 = .ok (.aload_n 0, 1) := by decide +kernel
theorem dX0_put_116 : decode cX0_put 116 = .ok (.invokevirtual 32, 3) := by decide +kernel
theorem dX0_put_119 : decode cX0_put 119 = .ok (.ireturn, 1) := by decide +kernel
abbrev cX0_isThing : ByteArray := prog_1_method_12_code
def yX0_isThing : MethodName := ⟨RX0, "isThing", "(I)Z"⟩
theorem dX0_isThing_0 : decode cX0_isThing 0 = .ok (.iload_n 0, 1) := by decide +kernel
theorem dX0_isThing_1 : decode cX0_isThing 1 = .ok (.ifCond .lt 13, 3) := by decide +kernel
theorem dX0_isThing_4 : decode cX0_isThing 4 = .ok (.iload_n 0, 1) := by decide +kernel
theorem dX0_isThing_5 : decode cX0_isThing 5 = .ok (.bipush 9, 2) := by decide +kernel
theorem dX0_isThing_7 : decode cX0_isThing 7 = .ok (.if_icmp .gt 7, 3) := by decide +kernel
theorem dX0_isThing_10 : decode cX0_isThing 10 = .ok (.iconst 1, 1) := by decide +kernel
theorem dX0_isThing_11 : decode cX0_isThing 11 = .ok (.goto 4, 3) := by decide +kernel
theorem dX0_isThing_14 : decode cX0_isThing 14 = .ok (.iconst 0, 1) := by decide +kernel
theorem dX0_isThing_15 : decode cX0_isThing 15 = .ok (.ireturn, 1) := by decide +kernel
abbrev cX0_pairs : ByteArray := prog_1_method_14_code
def yX0_pairs : MethodName := ⟨RX0, "pairs", "()I"⟩
theorem dX0_pairs_0 : decode cX0_pairs 0 = .ok (.iconst 0, 1) := by decide +kernel
theorem dX0_pairs_1 : decode cX0_pairs 1 = .ok (.istore_n 1, 1) := by decide +kernel
theorem dX0_pairs_2 : decode cX0_pairs 2 = .ok (.iconst 0, 1) := by decide +kernel
theorem dX0_pairs_3 : decode cX0_pairs 3 = .ok (.istore_n 2, 1) := by decide +kernel
theorem dX0_pairs_4 : decode cX0_pairs 4 = .ok (.iload_n 2, 1) := by decide +kernel
theorem dX0_pairs_5 : decode cX0_pairs 5 = .ok (.bipush 10, 2) := by decide +kernel
theorem dX0_pairs_7 : decode cX0_pairs 7 = .ok (.if_icmp .ge 21, 3) := by decide +kernel
theorem dX0_pairs_10 : decode cX0_pairs 10 = .ok (.iload_n 1, 1) := by decide +kernel
theorem dX0_pairs_11 : decode cX0_pairs 11 = .ok (.aload_n 0, 1) := by decide +kernel
theorem dX0_pairs_12 : decode cX0_pairs 12 = .ok (.getfield 7, 3) := by decide +kernel
theorem dX0_pairs_15 : decode cX0_pairs 15 = .ok (.iload_n 2, 1) := by decide +kernel
theorem dX0_pairs_16 : decode cX0_pairs 16 = .ok (.iaload, 1) := by decide +kernel
theorem dX0_pairs_17 : decode cX0_pairs 17 = .ok (.invokestatic 49, 3) := by decide +kernel
theorem dX0_pairs_20 : decode cX0_pairs 20 = .ok (.iadd, 1) := by decide +kernel
theorem dX0_pairs_21 : decode cX0_pairs 21 = .ok (.istore_n 1, 1) := by decide +kernel
theorem dX0_pairs_22 : decode cX0_pairs 22 = .ok (.iinc 2 1, 3) := by decide +kernel
theorem dX0_pairs_25 : decode cX0_pairs 25 = .ok (.goto (-21), 3) := by decide +kernel
theorem dX0_pairs_28 : decode cX0_pairs 28 = .ok (.iload_n 1, 1) := by decide +kernel
theorem dX0_pairs_29 : decode cX0_pairs 29 = .ok (.ireturn, 1) := by decide +kernel
abbrev cX0_size : ByteArray := prog_1_method_13_code
def yX0_size : MethodName := ⟨RX0, "size", "(I)I"⟩
theorem dX0_size_0 : decode cX0_size 0 = .ok (.iconst 0, 1) := by decide +kernel
theorem dX0_size_1 : decode cX0_size 1 = .ok (.istore_n 1, 1) := by decide +kernel
theorem dX0_size_2 : decode cX0_size 2 = .ok (.iconst 0, 1) := by decide +kernel
theorem dX0_size_3 : decode cX0_size 3 = .ok (.istore_n 2, 1) := by decide +kernel
theorem dX0_size_4 : decode cX0_size 4 = .ok (.iload_n 2, 1) := by decide +kernel
theorem dX0_size_5 : decode cX0_size 5 = .ok (.bipush 10, 2) := by decide +kernel
theorem dX0_size_7 : decode cX0_size 7 = .ok (.if_icmp .ge 17, 3) := by decide +kernel
theorem dX0_size_10 : decode cX0_size 10 = .ok (.iload_n 1, 1) := by decide +kernel
theorem dX0_size_11 : decode cX0_size 11 = .ok (.iload_n 0, 1) := by decide +kernel
theorem dX0_size_12 : decode cX0_size 12 = .ok (.iload_n 2, 1) := by decide +kernel
theorem dX0_size_13 : decode cX0_size 13 = .ok (.iushr, 1) := by decide +kernel
theorem dX0_size_14 : decode cX0_size 14 = .ok (.iconst 1, 1) := by decide +kernel
theorem dX0_size_15 : decode cX0_size 15 = .ok (.iand, 1) := by decide +kernel
theorem dX0_size_16 : decode cX0_size 16 = .ok (.iadd, 1) := by decide +kernel
theorem dX0_size_17 : decode cX0_size 17 = .ok (.istore_n 1, 1) := by decide +kernel
theorem dX0_size_18 : decode cX0_size 18 = .ok (.iinc 2 1, 3) := by decide +kernel
theorem dX0_size_21 : decode cX0_size 21 = .ok (.goto (-17), 3) := by decide +kernel
theorem dX0_size_24 : decode cX0_size 24 = .ok (.iload_n 1, 1) := by decide +kernel
theorem dX0_size_25 : decode cX0_size 25 = .ok (.ireturn, 1) := by decide +kernel
abbrev cX0_release : ByteArray := prog_1_method_3_code
def yX0_release : MethodName := ⟨RX0, "release", "(I)I"⟩
theorem dX0_release_0 : decode cX0_release 0 = .ok (.iload_n 1, 1) := by decide +kernel
theorem dX0_release_1 : decode cX0_release 1 = .ok (.invokestatic 28, 3) := by decide +kernel
theorem dX0_release_4 : decode cX0_release 4 = .ok (.ifCond .ne 5, 3) := by decide +kernel
theorem dX0_release_7 : decode cX0_release 7 = .ok (.iconst (-1), 1) := by decide +kernel
theorem dX0_release_8 : decode cX0_release 8 = .ok (.ireturn, 1) := by decide +kernel
theorem dX0_release_9 : decode cX0_release 9 = .ok (.iconst 0, 1) := by decide +kernel
theorem dX0_release_10 : decode cX0_release 10 = .ok (.istore_n 2, 1) := by decide +kernel
theorem dX0_release_11 : decode cX0_release 11 = .ok (.iload_n 2, 1) := by decide +kernel
theorem dX0_release_12 : decode cX0_release 12 = .ok (.bipush 10, 2) := by decide +kernel
theorem dX0_release_14 : decode cX0_release 14 = .ok (.if_icmp .ge 37, 3) := by decide +kernel
theorem dX0_release_17 : decode cX0_release 17 = .ok (.aload_n 0, 1) := by decide +kernel
theorem dX0_release_18 : decode cX0_release 18 = .ok (.getfield 7, 3) := by decide +kernel
theorem dX0_release_21 : decode cX0_release 21 = .ok (.iload_n 2, 1) := by decide +kernel
theorem dX0_release_22 : decode cX0_release 22 = .ok (.dup2, 1) := by decide +kernel
theorem dX0_release_23 : decode cX0_release 23 = .ok (.iaload, 1) := by decide +kernel
theorem dX0_release_24 : decode cX0_release 24 = .ok (.iconst 1, 1) := by decide +kernel
theorem dX0_release_25 : decode cX0_release 25 = .ok (.iload_n 1, 1) := by decide +kernel
theorem dX0_release_26 : decode cX0_release 26 = .ok (.ishl, 1) := by decide +kernel
theorem dX0_release_27 : decode cX0_release 27 = .ok (.iconst (-1), 1) := by decide +kernel
theorem dX0_release_28 : decode cX0_release 28 = .ok (.ixor, 1) := by decide +kernel
theorem dX0_release_29 : decode cX0_release 29 = .ok (.iand, 1) := by decide +kernel
theorem dX0_release_30 : decode cX0_release 30 = .ok (.iastore, 1) := by decide +kernel
theorem dX0_release_31 : decode cX0_release 31 = .ok (.aload_n 0, 1) := by decide +kernel
theorem dX0_release_32 : decode cX0_release 32 = .ok (.getfield 13, 3) := by decide +kernel
theorem dX0_release_35 : decode cX0_release 35 = .ok (.iload_n 2, 1) := by decide +kernel
theorem dX0_release_36 : decode cX0_release 36 = .ok (.dup2, 1) := by decide +kernel
theorem dX0_release_37 : decode cX0_release 37 = .ok (.iaload, 1) := by decide +kernel
theorem dX0_release_38 : decode cX0_release 38 = .ok (.iconst 1, 1) := by decide +kernel
theorem dX0_release_39 : decode cX0_release 39 = .ok (.iload_n 1, 1) := by decide +kernel
theorem dX0_release_40 : decode cX0_release 40 = .ok (.ishl, 1) := by decide +kernel
theorem dX0_release_41 : decode cX0_release 41 = .ok (.iconst (-1), 1) := by decide +kernel
theorem dX0_release_42 : decode cX0_release 42 = .ok (.ixor, 1) := by decide +kernel
theorem dX0_release_43 : decode cX0_release 43 = .ok (.iand, 1) := by decide +kernel
theorem dX0_release_44 : decode cX0_release 44 = .ok (.iastore, 1) := by decide +kernel
theorem dX0_release_45 : decode cX0_release 45 = .ok (.iinc 2 1, 3) := by decide +kernel
theorem dX0_release_48 : decode cX0_release 48 = .ok (.goto (-37), 3) := by decide +kernel
theorem dX0_release_51 : decode cX0_release 51 = .ok (.aload_n 0, 1) := by decide +kernel
theorem dX0_release_52 : decode cX0_release 52 = .ok (.getfield 7, 3) := by decide +kernel
theorem dX0_release_55 : decode cX0_release 55 = .ok (.iload_n 1, 1) := by decide +kernel
theorem dX0_release_56 : decode cX0_release 56 = .ok (.iconst 0, 1) := by decide +kernel
theorem dX0_release_57 : decode cX0_release 57 = .ok (.iastore, 1) := by decide +kernel
theorem dX0_release_58 : decode cX0_release 58 = .ok (.aload_n 0, 1) := by decide +kernel
theorem dX0_release_59 : decode cX0_release 59 = .ok (.getfield 13, 3) := by decide +kernel
theorem dX0_release_62 : decode cX0_release 62 = .ok (.iload_n 1, 1) := by decide +kernel
theorem dX0_release_63 : decode cX0_release 63 = .ok (.iconst 0, 1) := by decide +kernel
theorem dX0_release_64 : decode cX0_release 64 = .ok (.iastore, 1) := by decide +kernel
theorem dX0_release_65 : decode cX0_release 65 = .ok (.aload_n 0, 1) := by decide +kernel
theorem dX0_release_66 : decode cX0_release 66 = .ok (.invokevirtual 32, 3) := by decide +kernel
theorem dX0_release_69 : decode cX0_release 69 = .ok (.ireturn, 1) := by decide +kernel
abbrev cX0_before : ByteArray := prog_1_method_4_code
def yX0_before : MethodName := ⟨RX0, "before", "(II)I"⟩
theorem dX0_before_0 : decode cX0_before 0 = .ok (.iload_n 1, 1) := by decide +kernel
theorem dX0_before_1 : decode cX0_before 1 = .ok (.invokestatic 28, 3) := by decide +kernel
theorem dX0_before_4 : decode cX0_before 4 = .ok (.ifCond .eq 23, 3) := by decide +kernel
theorem dX0_before_7 : decode cX0_before 7 = .ok (.iload_n 2, 1) := by decide +kernel
theorem dX0_before_8 : decode cX0_before 8 = .ok (.invokestatic 28, 3) := by decide +kernel
theorem dX0_before_11 : decode cX0_before 11 = .ok (.ifCond .eq 16, 3) := by decide +kernel
theorem dX0_before_14 : decode cX0_before 14 = .ok (.aload_n 0, 1) := by decide +kernel
theorem dX0_before_15 : decode cX0_before 15 = .ok (.getfield 7, 3) := by decide +kernel
theorem dX0_before_18 : decode cX0_before 18 = .ok (.iload_n 1, 1) := by decide +kernel
theorem dX0_before_19 : decode cX0_before 19 = .ok (.iaload, 1) := by decide +kernel
theorem dX0_before_20 : decode cX0_before 20 = .ok (.iload_n 2, 1) := by decide +kernel
theorem dX0_before_21 : decode cX0_before 21 = .ok (.iushr, 1) := by decide +kernel
theorem dX0_before_22 : decode cX0_before 22 = .ok (.iconst 1, 1) := by decide +kernel
theorem dX0_before_23 : decode cX0_before 23 = .ok (.iand, 1) := by decide +kernel
theorem dX0_before_24 : decode cX0_before 24 = .ok (.goto 4, 3) := by decide +kernel
theorem dX0_before_27 : decode cX0_before 27 = .ok (.iconst (-1), 1) := by decide +kernel
theorem dX0_before_28 : decode cX0_before 28 = .ok (.ireturn, 1) := by decide +kernel
abbrev cX0_width : ByteArray := prog_1_method_5_code
def yX0_width : MethodName := ⟨RX0, "width", "()I"⟩
theorem dX0_width_0 : decode cX0_width 0 = .ok (.aload_n 0, 1) := by decide +kernel
theorem dX0_width_1 : decode cX0_width 1 = .ok (.sipush 1023, 3) := by decide +kernel
theorem dX0_width_4 : decode cX0_width 4 = .ok (.invokevirtual 36, 3) := by decide +kernel
theorem dX0_width_7 : decode cX0_width 7 = .ok (.ireturn, 1) := by decide +kernel
abbrev cX0_widthOf : ByteArray := prog_1_method_18_code
def yX0_widthOf : MethodName := ⟨RX0, "widthOf", "(I)I"⟩
theorem dX0_widthOf_0 : decode cX0_widthOf 0 = .ok (.iconst 0, 1) := by decide +kernel
theorem dX0_widthOf_1 : decode cX0_widthOf 1 = .ok (.istore_n 2, 1) := by decide +kernel
theorem dX0_widthOf_2 : decode cX0_widthOf 2 = .ok (.iload_n 2, 1) := by decide +kernel
theorem dX0_widthOf_3 : decode cX0_widthOf 3 = .ok (.bipush 10, 2) := by decide +kernel
theorem dX0_widthOf_5 : decode cX0_widthOf 5 = .ok (.if_icmp .ge 23, 3) := by decide +kernel
theorem dX0_widthOf_8 : decode cX0_widthOf 8 = .ok (.aload_n 0, 1) := by decide +kernel
theorem dX0_widthOf_9 : decode cX0_widthOf 9 = .ok (.getfield 16, 3) := by decide +kernel
theorem dX0_widthOf_12 : decode cX0_widthOf 12 = .ok (.iload_n 2, 1) := by decide +kernel
theorem dX0_widthOf_13 : decode cX0_widthOf 13 = .ok (.iconst (-1), 1) := by decide +kernel
theorem dX0_widthOf_14 : decode cX0_widthOf 14 = .ok (.iastore, 1) := by decide +kernel
theorem dX0_widthOf_15 : decode cX0_widthOf 15 = .ok (.aload_n 0, 1) := by decide +kernel
theorem dX0_widthOf_16 : decode cX0_widthOf 16 = .ok (.getfield 19, 3) := by decide +kernel
theorem dX0_widthOf_19 : decode cX0_widthOf 19 = .ok (.iload_n 2, 1) := by decide +kernel
theorem dX0_widthOf_20 : decode cX0_widthOf 20 = .ok (.iconst (-1), 1) := by decide +kernel
theorem dX0_widthOf_21 : decode cX0_widthOf 21 = .ok (.iastore, 1) := by decide +kernel
theorem dX0_widthOf_22 : decode cX0_widthOf 22 = .ok (.iinc 2 1, 3) := by decide +kernel
theorem dX0_widthOf_25 : decode cX0_widthOf 25 = .ok (.goto (-23), 3) := by decide +kernel
theorem dX0_widthOf_28 : decode cX0_widthOf 28 = .ok (.iload_n 1, 1) := by decide +kernel
theorem dX0_widthOf_29 : decode cX0_widthOf 29 = .ok (.invokestatic 49, 3) := by decide +kernel
theorem dX0_widthOf_32 : decode cX0_widthOf 32 = .ok (.istore_n 2, 1) := by decide +kernel
theorem dX0_widthOf_33 : decode cX0_widthOf 33 = .ok (.iconst 0, 1) := by decide +kernel
theorem dX0_widthOf_34 : decode cX0_widthOf 34 = .ok (.istore_n 3, 1) := by decide +kernel
theorem dX0_widthOf_35 : decode cX0_widthOf 35 = .ok (.iload_n 3, 1) := by decide +kernel
theorem dX0_widthOf_36 : decode cX0_widthOf 36 = .ok (.bipush 10, 2) := by decide +kernel
theorem dX0_widthOf_38 : decode cX0_widthOf 38 = .ok (.if_icmp .ge 38, 3) := by decide +kernel
theorem dX0_widthOf_41 : decode cX0_widthOf 41 = .ok (.iload_n 1, 1) := by decide +kernel
theorem dX0_widthOf_42 : decode cX0_widthOf 42 = .ok (.iload_n 3, 1) := by decide +kernel
theorem dX0_widthOf_43 : decode cX0_widthOf 43 = .ok (.iushr, 1) := by decide +kernel
theorem dX0_widthOf_44 : decode cX0_widthOf 44 = .ok (.iconst 1, 1) := by decide +kernel
theorem dX0_widthOf_45 : decode cX0_widthOf 45 = .ok (.iand, 1) := by decide +kernel
theorem dX0_widthOf_46 : decode cX0_widthOf 46 = .ok (.ifCond .eq 24, 3) := by decide +kernel
theorem dX0_widthOf_49 : decode cX0_widthOf 49 = .ok (.aload_n 0, 1) := by decide +kernel
theorem dX0_widthOf_50 : decode cX0_widthOf 50 = .ok (.iload_n 3, 1) := by decide +kernel
theorem dX0_widthOf_51 : decode cX0_widthOf 51 = .ok (.iload_n 1, 1) := by decide +kernel
theorem dX0_widthOf_52 : decode cX0_widthOf 52 = .ok (.invokevirtual 55, 3) := by decide +kernel
theorem dX0_widthOf_55 : decode cX0_widthOf 55 = .ok (.istore 4, 2) := by decide +kernel
theorem dX0_widthOf_57 : decode cX0_widthOf 57 = .ok (.iload_n 2, 1) := by decide +kernel
theorem dX0_widthOf_58 : decode cX0_widthOf 58 = .ok (.iload 4, 2) := by decide +kernel
theorem dX0_widthOf_60 : decode cX0_widthOf 60 = .ok (.ifCond .eq 7, 3) := by decide +kernel
theorem dX0_widthOf_63 : decode cX0_widthOf 63 = .ok (.iconst 1, 1) := by decide +kernel
theorem dX0_widthOf_64 : decode cX0_widthOf 64 = .ok (.goto 4, 3) := by decide +kernel
theorem dX0_widthOf_67 : decode cX0_widthOf 67 = .ok (.iconst 0, 1) := by decide +kernel
theorem dX0_widthOf_68 : decode cX0_widthOf 68 = .ok (.isub, 1) := by decide +kernel
theorem dX0_widthOf_69 : decode cX0_widthOf 69 = .ok (.istore_n 2, 1) := by decide +kernel
theorem dX0_widthOf_70 : decode cX0_widthOf 70 = .ok (.iinc 3 1, 3) := by decide +kernel
theorem dX0_widthOf_73 : decode cX0_widthOf 73 = .ok (.goto (-38), 3) := by decide +kernel
theorem dX0_widthOf_76 : decode cX0_widthOf 76 = .ok (.iload_n 2, 1) := by decide +kernel
theorem dX0_widthOf_77 : decode cX0_widthOf 77 = .ok (.ireturn, 1) := by decide +kernel
abbrev cX0_lengthen : ByteArray := prog_1_method_19_code
def yX0_lengthen : MethodName := ⟨RX0, "lengthen", "(II)Z"⟩
theorem dX0_lengthen_0 : decode cX0_lengthen 0 = .ok (.iconst 0, 1) := by decide +kernel
theorem dX0_lengthen_1 : decode cX0_lengthen 1 = .ok (.istore_n 3, 1) := by decide +kernel
theorem dX0_lengthen_2 : decode cX0_lengthen 2 = .ok (.iload_n 3, 1) := by decide +kernel
theorem dX0_lengthen_3 : decode cX0_lengthen 3 = .ok (.bipush 10, 2) := by decide +kernel
theorem dX0_lengthen_5 : decode cX0_lengthen 5 = .ok (.if_icmp .ge 16, 3) := by decide +kernel
theorem dX0_lengthen_8 : decode cX0_lengthen 8 = .ok (.aload_n 0, 1) := by decide +kernel
theorem dX0_lengthen_9 : decode cX0_lengthen 9 = .ok (.getfield 22, 3) := by decide +kernel
theorem dX0_lengthen_12 : decode cX0_lengthen 12 = .ok (.iload_n 3, 1) := by decide +kernel
theorem dX0_lengthen_13 : decode cX0_lengthen 13 = .ok (.iconst (-1), 1) := by decide +kernel
theorem dX0_lengthen_14 : decode cX0_lengthen 14 = .ok (.iastore, 1) := by decide +kernel
theorem dX0_lengthen_15 : decode cX0_lengthen 15 = .ok (.iinc 3 1, 3) := by decide +kernel
theorem dX0_lengthen_18 : decode cX0_lengthen 18 = .ok (.goto (-16), 3) := by decide +kernel
theorem dX0_lengthen_21 : decode cX0_lengthen 21 = .ok (.aload_n 0, 1) := by decide +kernel
theorem dX0_lengthen_22 : decode cX0_lengthen 22 = .ok (.getfield 25, 3) := by decide +kernel
theorem dX0_lengthen_25 : decode cX0_lengthen 25 = .ok (.iconst 0, 1) := by decide +kernel
theorem dX0_lengthen_26 : decode cX0_lengthen 26 = .ok (.iload_n 1, 1) := by decide +kernel
theorem dX0_lengthen_27 : decode cX0_lengthen 27 = .ok (.iastore, 1) := by decide +kernel
theorem dX0_lengthen_28 : decode cX0_lengthen 28 = .ok (.aload_n 0, 1) := by decide +kernel
theorem dX0_lengthen_29 : decode cX0_lengthen 29 = .ok (.iconst 1, 1) := by decide +kernel
theorem dX0_lengthen_30 : decode cX0_lengthen 30 = .ok (.putfield 59, 3) := by decide +kernel
theorem dX0_lengthen_33 : decode cX0_lengthen 33 = .ok (.iconst 0, 1) := by decide +kernel
theorem dX0_lengthen_34 : decode cX0_lengthen 34 = .ok (.istore_n 3, 1) := by decide +kernel
theorem dX0_lengthen_35 : decode cX0_lengthen 35 = .ok (.iload_n 3, 1) := by decide +kernel
theorem dX0_lengthen_36 : decode cX0_lengthen 36 = .ok (.aload_n 0, 1) := by decide +kernel
theorem dX0_lengthen_37 : decode cX0_lengthen 37 = .ok (.getfield 59, 3) := by decide +kernel
theorem dX0_lengthen_40 : decode cX0_lengthen 40 = .ok (.if_icmp .ge 41, 3) := by decide +kernel
theorem dX0_lengthen_43 : decode cX0_lengthen 43 = .ok (.iload_n 3, 1) := by decide +kernel
theorem dX0_lengthen_44 : decode cX0_lengthen 44 = .ok (.bipush 10, 2) := by decide +kernel
theorem dX0_lengthen_46 : decode cX0_lengthen 46 = .ok (.if_icmp .ge 35, 3) := by decide +kernel
theorem dX0_lengthen_49 : decode cX0_lengthen 49 = .ok (.aload_n 0, 1) := by decide +kernel
theorem dX0_lengthen_50 : decode cX0_lengthen 50 = .ok (.aload_n 0, 1) := by decide +kernel
theorem dX0_lengthen_51 : decode cX0_lengthen 51 = .ok (.getfield 25, 3) := by decide +kernel
theorem dX0_lengthen_54 : decode cX0_lengthen 54 = .ok (.iload_n 3, 1) := by decide +kernel
theorem dX0_lengthen_55 : decode cX0_lengthen 55 = .ok (.iaload, 1) := by decide +kernel
theorem dX0_lengthen_56 : decode cX0_lengthen 56 = .ok (.iload_n 2, 1) := by decide +kernel
theorem dX0_lengthen_57 : decode cX0_lengthen 57 = .ok (.invokevirtual 63, 3) := by decide +kernel
theorem dX0_lengthen_60 : decode cX0_lengthen 60 = .ok (.istore 4, 2) := by decide +kernel
theorem dX0_lengthen_62 : decode cX0_lengthen 62 = .ok (.iload 4, 2) := by decide +kernel
theorem dX0_lengthen_64 : decode cX0_lengthen 64 = .ok (.ifCond .lt 11, 3) := by decide +kernel
theorem dX0_lengthen_67 : decode cX0_lengthen 67 = .ok (.aload_n 0, 1) := by decide +kernel
theorem dX0_lengthen_68 : decode cX0_lengthen 68 = .ok (.iload 4, 2) := by decide +kernel
theorem dX0_lengthen_70 : decode cX0_lengthen 70 = .ok (.invokevirtual 67, 3) := by decide +kernel
theorem dX0_lengthen_73 : decode cX0_lengthen 73 = .ok (.iconst 1, 1) := by decide +kernel
theorem dX0_lengthen_74 : decode cX0_lengthen 74 = .ok (.ireturn, 1) := by decide +kernel
theorem dX0_lengthen_75 : decode cX0_lengthen 75 = .ok (.iinc 3 1, 3) := by decide +kernel
theorem dX0_lengthen_78 : decode cX0_lengthen 78 = .ok (.goto (-43), 3) := by decide +kernel
theorem dX0_lengthen_81 : decode cX0_lengthen 81 = .ok (.iconst 0, 1) := by decide +kernel
theorem dX0_lengthen_82 : decode cX0_lengthen 82 = .ok (.ireturn, 1) := by decide +kernel
abbrev cX0_spread : ByteArray := prog_1_method_20_code
def yX0_spread : MethodName := ⟨RX0, "spread", "(II)I"⟩
theorem dX0_spread_0 : decode cX0_spread 0 = .ok (.iconst 0, 1) := by decide +kernel
theorem dX0_spread_1 : decode cX0_spread 1 = .ok (.istore_n 3, 1) := by decide +kernel
theorem dX0_spread_2 : decode cX0_spread 2 = .ok (.iload_n 3, 1) := by decide +kernel
theorem dX0_spread_3 : decode cX0_spread 3 = .ok (.bipush 10, 2) := by decide +kernel
theorem dX0_spread_5 : decode cX0_spread 5 = .ok (.if_icmp .ge 76, 3) := by decide +kernel
theorem dX0_spread_8 : decode cX0_spread 8 = .ok (.aload_n 0, 1) := by decide +kernel
theorem dX0_spread_9 : decode cX0_spread 9 = .ok (.getfield 7, 3) := by decide +kernel
theorem dX0_spread_12 : decode cX0_spread 12 = .ok (.iload_n 1, 1) := by decide +kernel
theorem dX0_spread_13 : decode cX0_spread 13 = .ok (.iaload, 1) := by decide +kernel
theorem dX0_spread_14 : decode cX0_spread 14 = .ok (.iload_n 2, 1) := by decide +kernel
theorem dX0_spread_15 : decode cX0_spread 15 = .ok (.iand, 1) := by decide +kernel
theorem dX0_spread_16 : decode cX0_spread 16 = .ok (.iconst 1, 1) := by decide +kernel
theorem dX0_spread_17 : decode cX0_spread 17 = .ok (.iload_n 3, 1) := by decide +kernel
theorem dX0_spread_18 : decode cX0_spread 18 = .ok (.ishl, 1) := by decide +kernel
theorem dX0_spread_19 : decode cX0_spread 19 = .ok (.iand, 1) := by decide +kernel
theorem dX0_spread_20 : decode cX0_spread 20 = .ok (.ifCond .eq 55, 3) := by decide +kernel
theorem dX0_spread_23 : decode cX0_spread 23 = .ok (.aload_n 0, 1) := by decide +kernel
theorem dX0_spread_24 : decode cX0_spread 24 = .ok (.getfield 22, 3) := by decide +kernel
theorem dX0_spread_27 : decode cX0_spread 27 = .ok (.iload_n 3, 1) := by decide +kernel
theorem dX0_spread_28 : decode cX0_spread 28 = .ok (.iaload, 1) := by decide +kernel
theorem dX0_spread_29 : decode cX0_spread 29 = .ok (.ifCond .ge 46, 3) := by decide +kernel
theorem dX0_spread_32 : decode cX0_spread 32 = .ok (.aload_n 0, 1) := by decide +kernel
theorem dX0_spread_33 : decode cX0_spread 33 = .ok (.getfield 22, 3) := by decide +kernel
theorem dX0_spread_36 : decode cX0_spread 36 = .ok (.iload_n 3, 1) := by decide +kernel
theorem dX0_spread_37 : decode cX0_spread 37 = .ok (.iload_n 1, 1) := by decide +kernel
theorem dX0_spread_38 : decode cX0_spread 38 = .ok (.iastore, 1) := by decide +kernel
theorem dX0_spread_39 : decode cX0_spread 39 = .ok (.aload_n 0, 1) := by decide +kernel
theorem dX0_spread_40 : decode cX0_spread 40 = .ok (.getfield 19, 3) := by decide +kernel
theorem dX0_spread_43 : decode cX0_spread 43 = .ok (.iload_n 3, 1) := by decide +kernel
theorem dX0_spread_44 : decode cX0_spread 44 = .ok (.iaload, 1) := by decide +kernel
theorem dX0_spread_45 : decode cX0_spread 45 = .ok (.ifCond .ge 5, 3) := by decide +kernel
theorem dX0_spread_48 : decode cX0_spread 48 = .ok (.iload_n 3, 1) := by decide +kernel
theorem dX0_spread_49 : decode cX0_spread 49 = .ok (.ireturn, 1) := by decide +kernel
theorem dX0_spread_50 : decode cX0_spread 50 = .ok (.aload_n 0, 1) := by decide +kernel
theorem dX0_spread_51 : decode cX0_spread 51 = .ok (.getfield 25, 3) := by decide +kernel
theorem dX0_spread_54 : decode cX0_spread 54 = .ok (.aload_n 0, 1) := by decide +kernel
theorem dX0_spread_55 : decode cX0_spread 55 = .ok (.getfield 59, 3) := by decide +kernel
theorem dX0_spread_58 : decode cX0_spread 58 = .ok (.aload_n 0, 1) := by decide +kernel
theorem dX0_spread_59 : decode cX0_spread 59 = .ok (.getfield 19, 3) := by decide +kernel
theorem dX0_spread_62 : decode cX0_spread 62 = .ok (.iload_n 3, 1) := by decide +kernel
theorem dX0_spread_63 : decode cX0_spread 63 = .ok (.iaload, 1) := by decide +kernel
theorem dX0_spread_64 : decode cX0_spread 64 = .ok (.iastore, 1) := by decide +kernel
theorem dX0_spread_65 : decode cX0_spread 65 = .ok (.aload_n 0, 1) := by decide +kernel
theorem dX0_spread_66 : decode cX0_spread 66 = .ok (.dup, 1) := by decide +kernel
theorem dX0_spread_67 : decode cX0_spread 67 = .ok (.getfield 59, 3) := by decide +kernel
theorem dX0_spread_70 : decode cX0_spread 70 = .ok (.iconst 1, 1) := by decide +kernel
theorem dX0_spread_71 : decode cX0_spread 71 = .ok (.iadd, 1) := by decide +kernel
theorem dX0_spread_72 : decode cX0_spread 72 = .ok (.putfield 59, 3) := by decide +kernel
theorem dX0_spread_75 : decode cX0_spread 75 = .ok (.iinc 3 1, 3) := by decide +kernel
theorem dX0_spread_78 : decode cX0_spread 78 = .ok (.goto (-76), 3) := by decide +kernel
theorem dX0_spread_81 : decode cX0_spread 81 = .ok (.iconst (-1), 1) := by decide +kernel
theorem dX0_spread_82 : decode cX0_spread 82 = .ok (.ireturn, 1) := by decide +kernel
abbrev cX0_turnWay : ByteArray := prog_1_method_21_code
def yX0_turnWay : MethodName := ⟨RX0, "turnWay", "(I)V"⟩
theorem dX0_turnWay_0 : decode cX0_turnWay 0 = .ok (.iload_n 1, 1) := by decide +kernel
theorem dX0_turnWay_1 : decode cX0_turnWay 1 = .ok (.istore_n 2, 1) := by decide +kernel
theorem dX0_turnWay_2 : decode cX0_turnWay 2 = .ok (.iconst 0, 1) := by decide +kernel
theorem dX0_turnWay_3 : decode cX0_turnWay 3 = .ok (.istore_n 3, 1) := by decide +kernel
theorem dX0_turnWay_4 : decode cX0_turnWay 4 = .ok (.iload_n 3, 1) := by decide +kernel
theorem dX0_turnWay_5 : decode cX0_turnWay 5 = .ok (.bipush 10, 2) := by decide +kernel
theorem dX0_turnWay_7 : decode cX0_turnWay 7 = .ok (.if_icmp .ge 49, 3) := by decide +kernel
theorem dX0_turnWay_10 : decode cX0_turnWay 10 = .ok (.iload_n 2, 1) := by decide +kernel
theorem dX0_turnWay_11 : decode cX0_turnWay 11 = .ok (.ifCond .lt 45, 3) := by decide +kernel
theorem dX0_turnWay_14 : decode cX0_turnWay 14 = .ok (.aload_n 0, 1) := by decide +kernel
theorem dX0_turnWay_15 : decode cX0_turnWay 15 = .ok (.getfield 22, 3) := by decide +kernel
theorem dX0_turnWay_18 : decode cX0_turnWay 18 = .ok (.iload_n 2, 1) := by decide +kernel
theorem dX0_turnWay_19 : decode cX0_turnWay 19 = .ok (.iaload, 1) := by decide +kernel
theorem dX0_turnWay_20 : decode cX0_turnWay 20 = .ok (.istore 4, 2) := by decide +kernel
theorem dX0_turnWay_22 : decode cX0_turnWay 22 = .ok (.aload_n 0, 1) := by decide +kernel
theorem dX0_turnWay_23 : decode cX0_turnWay 23 = .ok (.getfield 16, 3) := by decide +kernel
theorem dX0_turnWay_26 : decode cX0_turnWay 26 = .ok (.iload 4, 2) := by decide +kernel
theorem dX0_turnWay_28 : decode cX0_turnWay 28 = .ok (.iaload, 1) := by decide +kernel
theorem dX0_turnWay_29 : decode cX0_turnWay 29 = .ok (.istore 5, 2) := by decide +kernel
theorem dX0_turnWay_31 : decode cX0_turnWay 31 = .ok (.aload_n 0, 1) := by decide +kernel
theorem dX0_turnWay_32 : decode cX0_turnWay 32 = .ok (.getfield 16, 3) := by decide +kernel
theorem dX0_turnWay_35 : decode cX0_turnWay 35 = .ok (.iload 4, 2) := by decide +kernel
theorem dX0_turnWay_37 : decode cX0_turnWay 37 = .ok (.iload_n 2, 1) := by decide +kernel
theorem dX0_turnWay_38 : decode cX0_turnWay 38 = .ok (.iastore, 1) := by decide +kernel
theorem dX0_turnWay_39 : decode cX0_turnWay 39 = .ok (.aload_n 0, 1) := by decide +kernel
theorem dX0_turnWay_40 : decode cX0_turnWay 40 = .ok (.getfield 19, 3) := by decide +kernel
theorem dX0_turnWay_43 : decode cX0_turnWay 43 = .ok (.iload_n 2, 1) := by decide +kernel
theorem dX0_turnWay_44 : decode cX0_turnWay 44 = .ok (.iload 4, 2) := by decide +kernel
theorem dX0_turnWay_46 : decode cX0_turnWay 46 = .ok (.iastore, 1) := by decide +kernel
theorem dX0_turnWay_47 : decode cX0_turnWay 47 = .ok (.iload 5, 2) := by decide +kernel
theorem dX0_turnWay_49 : decode cX0_turnWay 49 = .ok (.istore_n 2, 1) := by decide +kernel
theorem dX0_turnWay_50 : decode cX0_turnWay 50 = .ok (.iinc 3 1, 3) := by decide +kernel
theorem dX0_turnWay_53 : decode cX0_turnWay 53 = .ok (.goto (-49), 3) := by decide +kernel
theorem dX0_turnWay_56 : decode cX0_turnWay 56 = .ok (.return_, 1) := by decide +kernel
abbrev cX0_widthWith : ByteArray := prog_1_method_6_code
def yX0_widthWith : MethodName := ⟨RX0, "widthWith", "(I)I"⟩
theorem dX0_widthWith_0 : decode cX0_widthWith 0 = .ok (.iload_n 1, 1) := by decide +kernel
theorem dX0_widthWith_1 : decode cX0_widthWith 1 = .ok (.invokestatic 28, 3) := by decide +kernel
theorem dX0_widthWith_4 : decode cX0_widthWith 4 = .ok (.ifCond .ne 5, 3) := by decide +kernel
theorem dX0_widthWith_7 : decode cX0_widthWith 7 = .ok (.iconst (-1), 1) := by decide +kernel
theorem dX0_widthWith_8 : decode cX0_widthWith 8 = .ok (.ireturn, 1) := by decide +kernel
theorem dX0_widthWith_9 : decode cX0_widthWith 9 = .ok (.aload_n 0, 1) := by decide +kernel
theorem dX0_widthWith_10 : decode cX0_widthWith 10 = .ok (.iload_n 1, 1) := by decide +kernel
theorem dX0_widthWith_11 : decode cX0_widthWith 11 = .ok (.invokevirtual 40, 3) := by decide +kernel
theorem dX0_widthWith_14 : decode cX0_widthWith 14 = .ok (.istore_n 2, 1) := by decide +kernel
theorem dX0_widthWith_15 : decode cX0_widthWith 15 = .ok (.iconst 1, 1) := by decide +kernel
theorem dX0_widthWith_16 : decode cX0_widthWith 16 = .ok (.aload_n 0, 1) := by decide +kernel
theorem dX0_widthWith_17 : decode cX0_widthWith 17 = .ok (.iload_n 2, 1) := by decide +kernel
theorem dX0_widthWith_18 : decode cX0_widthWith 18 = .ok (.invokevirtual 36, 3) := by decide +kernel
theorem dX0_widthWith_21 : decode cX0_widthWith 21 = .ok (.iadd, 1) := by decide +kernel
theorem dX0_widthWith_22 : decode cX0_widthWith 22 = .ok (.ireturn, 1) := by decide +kernel
abbrev cX0_besides : ByteArray := prog_1_method_15_code
def yX0_besides : MethodName := ⟨RX0, "besides", "(I)I"⟩
theorem dX0_besides_0 : decode cX0_besides 0 = .ok (.sipush 1023, 3) := by decide +kernel
theorem dX0_besides_3 : decode cX0_besides 3 = .ok (.aload_n 0, 1) := by decide +kernel
theorem dX0_besides_4 : decode cX0_besides 4 = .ok (.getfield 7, 3) := by decide +kernel
theorem dX0_besides_7 : decode cX0_besides 7 = .ok (.iload_n 1, 1) := by decide +kernel
theorem dX0_besides_8 : decode cX0_besides 8 = .ok (.iaload, 1) := by decide +kernel
theorem dX0_besides_9 : decode cX0_besides 9 = .ok (.aload_n 0, 1) := by decide +kernel
theorem dX0_besides_10 : decode cX0_besides 10 = .ok (.getfield 13, 3) := by decide +kernel
theorem dX0_besides_13 : decode cX0_besides 13 = .ok (.iload_n 1, 1) := by decide +kernel
theorem dX0_besides_14 : decode cX0_besides 14 = .ok (.iaload, 1) := by decide +kernel
theorem dX0_besides_15 : decode cX0_besides 15 = .ok (.ior, 1) := by decide +kernel
theorem dX0_besides_16 : decode cX0_besides 16 = .ok (.iconst 1, 1) := by decide +kernel
theorem dX0_besides_17 : decode cX0_besides 17 = .ok (.iload_n 1, 1) := by decide +kernel
theorem dX0_besides_18 : decode cX0_besides 18 = .ok (.ishl, 1) := by decide +kernel
theorem dX0_besides_19 : decode cX0_besides 19 = .ok (.ior, 1) := by decide +kernel
theorem dX0_besides_20 : decode cX0_besides 20 = .ok (.iconst (-1), 1) := by decide +kernel
theorem dX0_besides_21 : decode cX0_besides 21 = .ok (.ixor, 1) := by decide +kernel
theorem dX0_besides_22 : decode cX0_besides 22 = .ok (.iand, 1) := by decide +kernel
theorem dX0_besides_23 : decode cX0_besides 23 = .ok (.ireturn, 1) := by decide +kernel
abbrev cX0_widthWithout : ByteArray := prog_1_method_7_code
def yX0_widthWithout : MethodName := ⟨RX0, "widthWithout", "(I)I"⟩
theorem dX0_widthWithout_0 : decode cX0_widthWithout 0 = .ok (.iload_n 1, 1) := by decide +kernel
theorem dX0_widthWithout_1 : decode cX0_widthWithout 1 = .ok (.invokestatic 28, 3) := by decide +kernel
theorem dX0_widthWithout_4 : decode cX0_widthWithout 4 = .ok (.ifCond .eq 19, 3) := by decide +kernel
theorem dX0_widthWithout_7 : decode cX0_widthWithout 7 = .ok (.aload_n 0, 1) := by decide +kernel
theorem dX0_widthWithout_8 : decode cX0_widthWithout 8 = .ok (.sipush 1023, 3) := by decide +kernel
theorem dX0_widthWithout_11 : decode cX0_widthWithout 11 = .ok (.iconst 1, 1) := by decide +kernel
theorem dX0_widthWithout_12 : decode cX0_widthWithout 12 = .ok (.iload_n 1, 1) := by decide +kernel
theorem dX0_widthWithout_13 : decode cX0_widthWithout 13 = .ok (.ishl, 1) := by decide +kernel
theorem dX0_widthWithout_14 : decode cX0_widthWithout 14 = .ok (.iconst (-1), 1) := by decide +kernel
theorem dX0_widthWithout_15 : decode cX0_widthWithout 15 = .ok (.ixor, 1) := by decide +kernel
theorem dX0_widthWithout_16 : decode cX0_widthWithout 16 = .ok (.iand, 1) := by decide +kernel
theorem dX0_widthWithout_17 : decode cX0_widthWithout 17 = .ok (.invokevirtual 36, 3) := by decide +kernel
theorem dX0_widthWithout_20 : decode cX0_widthWithout 20 = .ok (.goto 4, 3) := by decide +kernel
theorem dX0_widthWithout_23 : decode cX0_widthWithout 23 = .ok (.iconst (-1), 1) := by decide +kernel
theorem dX0_widthWithout_24 : decode cX0_widthWithout 24 = .ok (.ireturn, 1) := by decide +kernel
abbrev cX0_chosen : ByteArray := prog_1_method_8_code
def yX0_chosen : MethodName := ⟨RX0, "chosen", "(I)I"⟩
theorem dX0_chosen_0 : decode cX0_chosen 0 = .ok (.iload_n 1, 1) := by decide +kernel
theorem dX0_chosen_1 : decode cX0_chosen 1 = .ok (.invokestatic 28, 3) := by decide +kernel
theorem dX0_chosen_4 : decode cX0_chosen 4 = .ok (.ifCond .ne 5, 3) := by decide +kernel
theorem dX0_chosen_7 : decode cX0_chosen 7 = .ok (.iconst (-1), 1) := by decide +kernel
theorem dX0_chosen_8 : decode cX0_chosen 8 = .ok (.ireturn, 1) := by decide +kernel
theorem dX0_chosen_9 : decode cX0_chosen 9 = .ok (.sipush 1023, 3) := by decide +kernel
theorem dX0_chosen_12 : decode cX0_chosen 12 = .ok (.istore_n 2, 1) := by decide +kernel
theorem dX0_chosen_13 : decode cX0_chosen 13 = .ok (.aload_n 0, 1) := by decide +kernel
theorem dX0_chosen_14 : decode cX0_chosen 14 = .ok (.iload_n 2, 1) := by decide +kernel
theorem dX0_chosen_15 : decode cX0_chosen 15 = .ok (.invokevirtual 36, 3) := by decide +kernel
theorem dX0_chosen_18 : decode cX0_chosen 18 = .ok (.istore_n 3, 1) := by decide +kernel
theorem dX0_chosen_19 : decode cX0_chosen 19 = .ok (.bipush 9, 2) := by decide +kernel
theorem dX0_chosen_21 : decode cX0_chosen 21 = .ok (.istore 4, 2) := by decide +kernel
theorem dX0_chosen_23 : decode cX0_chosen 23 = .ok (.iload 4, 2) := by decide +kernel
theorem dX0_chosen_25 : decode cX0_chosen 25 = .ok (.iload_n 1, 1) := by decide +kernel
theorem dX0_chosen_26 : decode cX0_chosen 26 = .ok (.if_icmp .lt 69, 3) := by decide +kernel
theorem dX0_chosen_29 : decode cX0_chosen 29 = .ok (.iload_n 2, 1) := by decide +kernel
theorem dX0_chosen_30 : decode cX0_chosen 30 = .ok (.iload 4, 2) := by decide +kernel
theorem dX0_chosen_32 : decode cX0_chosen 32 = .ok (.iushr, 1) := by decide +kernel
theorem dX0_chosen_33 : decode cX0_chosen 33 = .ok (.iconst 1, 1) := by decide +kernel
theorem dX0_chosen_34 : decode cX0_chosen 34 = .ok (.iand, 1) := by decide +kernel
theorem dX0_chosen_35 : decode cX0_chosen 35 = .ok (.ifCond .eq 54, 3) := by decide +kernel
theorem dX0_chosen_38 : decode cX0_chosen 38 = .ok (.iload_n 2, 1) := by decide +kernel
theorem dX0_chosen_39 : decode cX0_chosen 39 = .ok (.iconst 1, 1) := by decide +kernel
theorem dX0_chosen_40 : decode cX0_chosen 40 = .ok (.iload 4, 2) := by decide +kernel
theorem dX0_chosen_42 : decode cX0_chosen 42 = .ok (.ishl, 1) := by decide +kernel
theorem dX0_chosen_43 : decode cX0_chosen 43 = .ok (.iconst (-1), 1) := by decide +kernel
theorem dX0_chosen_44 : decode cX0_chosen 44 = .ok (.ixor, 1) := by decide +kernel
theorem dX0_chosen_45 : decode cX0_chosen 45 = .ok (.iand, 1) := by decide +kernel
theorem dX0_chosen_46 : decode cX0_chosen 46 = .ok (.istore 5, 2) := by decide +kernel
theorem dX0_chosen_48 : decode cX0_chosen 48 = .ok (.aload_n 0, 1) := by decide +kernel
theorem dX0_chosen_49 : decode cX0_chosen 49 = .ok (.iload 5, 2) := by decide +kernel
theorem dX0_chosen_51 : decode cX0_chosen 51 = .ok (.invokevirtual 36, 3) := by decide +kernel
theorem dX0_chosen_54 : decode cX0_chosen 54 = .ok (.istore 6, 2) := by decide +kernel
theorem dX0_chosen_56 : decode cX0_chosen 56 = .ok (.iload 6, 2) := by decide +kernel
theorem dX0_chosen_58 : decode cX0_chosen 58 = .ok (.iload_n 3, 1) := by decide +kernel
theorem dX0_chosen_59 : decode cX0_chosen 59 = .ok (.if_icmp .ne 9, 3) := by decide +kernel
theorem dX0_chosen_62 : decode cX0_chosen 62 = .ok (.iload 5, 2) := by decide +kernel
theorem dX0_chosen_64 : decode cX0_chosen 64 = .ok (.istore_n 2, 1) := by decide +kernel
theorem dX0_chosen_65 : decode cX0_chosen 65 = .ok (.goto 24, 3) := by decide +kernel
theorem dX0_chosen_68 : decode cX0_chosen 68 = .ok (.iload 4, 2) := by decide +kernel
theorem dX0_chosen_70 : decode cX0_chosen 70 = .ok (.iload_n 1, 1) := by decide +kernel
theorem dX0_chosen_71 : decode cX0_chosen 71 = .ok (.if_icmp .ne 5, 3) := by decide +kernel
theorem dX0_chosen_74 : decode cX0_chosen 74 = .ok (.iconst 1, 1) := by decide +kernel
theorem dX0_chosen_75 : decode cX0_chosen 75 = .ok (.ireturn, 1) := by decide +kernel
theorem dX0_chosen_76 : decode cX0_chosen 76 = .ok (.iload 5, 2) := by decide +kernel
theorem dX0_chosen_78 : decode cX0_chosen 78 = .ok (.aload_n 0, 1) := by decide +kernel
theorem dX0_chosen_79 : decode cX0_chosen 79 = .ok (.iload 4, 2) := by decide +kernel
theorem dX0_chosen_81 : decode cX0_chosen 81 = .ok (.invokevirtual 40, 3) := by decide +kernel
theorem dX0_chosen_84 : decode cX0_chosen 84 = .ok (.iand, 1) := by decide +kernel
theorem dX0_chosen_85 : decode cX0_chosen 85 = .ok (.istore_n 2, 1) := by decide +kernel
theorem dX0_chosen_86 : decode cX0_chosen 86 = .ok (.iinc 3 (-1), 3) := by decide +kernel
theorem dX0_chosen_89 : decode cX0_chosen 89 = .ok (.iinc 4 (-1), 3) := by decide +kernel
theorem dX0_chosen_92 : decode cX0_chosen 92 = .ok (.goto (-69), 3) := by decide +kernel
theorem dX0_chosen_95 : decode cX0_chosen 95 = .ok (.iconst 0, 1) := by decide +kernel
theorem dX0_chosen_96 : decode cX0_chosen 96 = .ok (.ireturn, 1) := by decide +kernel
abbrev cX0_height : ByteArray := prog_1_method_9_code
def yX0_height : MethodName := ⟨RX0, "height", "()I"⟩
theorem dX0_height_0 : decode cX0_height 0 = .ok (.iconst 0, 1) := by decide +kernel
theorem dX0_height_1 : decode cX0_height 1 = .ok (.istore_n 1, 1) := by decide +kernel
theorem dX0_height_2 : decode cX0_height 2 = .ok (.iconst 0, 1) := by decide +kernel
theorem dX0_height_3 : decode cX0_height 3 = .ok (.istore_n 2, 1) := by decide +kernel
theorem dX0_height_4 : decode cX0_height 4 = .ok (.iload_n 2, 1) := by decide +kernel
theorem dX0_height_5 : decode cX0_height 5 = .ok (.bipush 10, 2) := by decide +kernel
theorem dX0_height_7 : decode cX0_height 7 = .ok (.if_icmp .ge 26, 3) := by decide +kernel
theorem dX0_height_10 : decode cX0_height 10 = .ok (.aload_n 0, 1) := by decide +kernel
theorem dX0_height_11 : decode cX0_height 11 = .ok (.iload_n 2, 1) := by decide +kernel
theorem dX0_height_12 : decode cX0_height 12 = .ok (.invokevirtual 43, 3) := by decide +kernel
theorem dX0_height_15 : decode cX0_height 15 = .ok (.istore_n 3, 1) := by decide +kernel
theorem dX0_height_16 : decode cX0_height 16 = .ok (.iload_n 3, 1) := by decide +kernel
theorem dX0_height_17 : decode cX0_height 17 = .ok (.iload_n 1, 1) := by decide +kernel
theorem dX0_height_18 : decode cX0_height 18 = .ok (.if_icmp .le 7, 3) := by decide +kernel
theorem dX0_height_21 : decode cX0_height 21 = .ok (.iload_n 3, 1) := by decide +kernel
theorem dX0_height_22 : decode cX0_height 22 = .ok (.goto 4, 3) := by decide +kernel
theorem dX0_height_25 : decode cX0_height 25 = .ok (.iload_n 1, 1) := by decide +kernel
theorem dX0_height_26 : decode cX0_height 26 = .ok (.istore_n 1, 1) := by decide +kernel
theorem dX0_height_27 : decode cX0_height 27 = .ok (.iinc 2 1, 3) := by decide +kernel
theorem dX0_height_30 : decode cX0_height 30 = .ok (.goto (-26), 3) := by decide +kernel
theorem dX0_height_33 : decode cX0_height 33 = .ok (.iload_n 1, 1) := by decide +kernel
theorem dX0_height_34 : decode cX0_height 34 = .ok (.ireturn, 1) := by decide +kernel
abbrev cX0_heightWith : ByteArray := prog_1_method_10_code
def yX0_heightWith : MethodName := ⟨RX0, "heightWith", "(I)I"⟩
theorem dX0_heightWith_0 : decode cX0_heightWith 0 = .ok (.iload_n 1, 1) := by decide +kernel
theorem dX0_heightWith_1 : decode cX0_heightWith 1 = .ok (.invokestatic 28, 3) := by decide +kernel
theorem dX0_heightWith_4 : decode cX0_heightWith 4 = .ok (.ifCond .ne 5, 3) := by decide +kernel
theorem dX0_heightWith_7 : decode cX0_heightWith 7 = .ok (.iconst (-1), 1) := by decide +kernel
theorem dX0_heightWith_8 : decode cX0_heightWith 8 = .ok (.ireturn, 1) := by decide +kernel
theorem dX0_heightWith_9 : decode cX0_heightWith 9 = .ok (.aload_n 0, 1) := by decide +kernel
theorem dX0_heightWith_10 : decode cX0_heightWith 10 = .ok (.aload_n 0, 1) := by decide +kernel
theorem dX0_heightWith_11 : decode cX0_heightWith 11 = .ok (.getfield 13, 3) := by decide +kernel
theorem dX0_heightWith_14 : decode cX0_heightWith 14 = .ok (.iload_n 1, 1) := by decide +kernel
theorem dX0_heightWith_15 : decode cX0_heightWith 15 = .ok (.iaload, 1) := by decide +kernel
theorem dX0_heightWith_16 : decode cX0_heightWith 16 = .ok (.invokevirtual 46, 3) := by decide +kernel
theorem dX0_heightWith_19 : decode cX0_heightWith 19 = .ok (.iconst 1, 1) := by decide +kernel
theorem dX0_heightWith_20 : decode cX0_heightWith 20 = .ok (.iadd, 1) := by decide +kernel
theorem dX0_heightWith_21 : decode cX0_heightWith 21 = .ok (.aload_n 0, 1) := by decide +kernel
theorem dX0_heightWith_22 : decode cX0_heightWith 22 = .ok (.aload_n 0, 1) := by decide +kernel
theorem dX0_heightWith_23 : decode cX0_heightWith 23 = .ok (.getfield 7, 3) := by decide +kernel
theorem dX0_heightWith_26 : decode cX0_heightWith 26 = .ok (.iload_n 1, 1) := by decide +kernel
theorem dX0_heightWith_27 : decode cX0_heightWith 27 = .ok (.iaload, 1) := by decide +kernel
theorem dX0_heightWith_28 : decode cX0_heightWith 28 = .ok (.invokevirtual 46, 3) := by decide +kernel
theorem dX0_heightWith_31 : decode cX0_heightWith 31 = .ok (.iadd, 1) := by decide +kernel
theorem dX0_heightWith_32 : decode cX0_heightWith 32 = .ok (.ireturn, 1) := by decide +kernel
abbrev cX0_longest : ByteArray := prog_1_method_16_code
def yX0_longest : MethodName := ⟨RX0, "longest", "(I)I"⟩
theorem dX0_longest_0 : decode cX0_longest 0 = .ok (.iconst 0, 1) := by decide +kernel
theorem dX0_longest_1 : decode cX0_longest 1 = .ok (.istore_n 2, 1) := by decide +kernel
theorem dX0_longest_2 : decode cX0_longest 2 = .ok (.iconst 0, 1) := by decide +kernel
theorem dX0_longest_3 : decode cX0_longest 3 = .ok (.istore_n 3, 1) := by decide +kernel
theorem dX0_longest_4 : decode cX0_longest 4 = .ok (.iconst 0, 1) := by decide +kernel
theorem dX0_longest_5 : decode cX0_longest 5 = .ok (.istore 4, 2) := by decide +kernel
theorem dX0_longest_7 : decode cX0_longest 7 = .ok (.iload 4, 2) := by decide +kernel
theorem dX0_longest_9 : decode cX0_longest 9 = .ok (.bipush 10, 2) := by decide +kernel
theorem dX0_longest_11 : decode cX0_longest 11 = .ok (.if_icmp .ge 33, 3) := by decide +kernel
theorem dX0_longest_14 : decode cX0_longest 14 = .ok (.aload_n 0, 1) := by decide +kernel
theorem dX0_longest_15 : decode cX0_longest 15 = .ok (.iload_n 1, 1) := by decide +kernel
theorem dX0_longest_16 : decode cX0_longest 16 = .ok (.iload_n 3, 1) := by decide +kernel
theorem dX0_longest_17 : decode cX0_longest 17 = .ok (.iconst (-1), 1) := by decide +kernel
theorem dX0_longest_18 : decode cX0_longest 18 = .ok (.ixor, 1) := by decide +kernel
theorem dX0_longest_19 : decode cX0_longest 19 = .ok (.iand, 1) := by decide +kernel
theorem dX0_longest_20 : decode cX0_longest 20 = .ok (.invokevirtual 52, 3) := by decide +kernel
theorem dX0_longest_23 : decode cX0_longest 23 = .ok (.istore 5, 2) := by decide +kernel
theorem dX0_longest_25 : decode cX0_longest 25 = .ok (.iload 5, 2) := by decide +kernel
theorem dX0_longest_27 : decode cX0_longest 27 = .ok (.ifCond .eq 6, 3) := by decide +kernel
theorem dX0_longest_30 : decode cX0_longest 30 = .ok (.iinc 2 1, 3) := by decide +kernel
theorem dX0_longest_33 : decode cX0_longest 33 = .ok (.iload_n 3, 1) := by decide +kernel
theorem dX0_longest_34 : decode cX0_longest 34 = .ok (.iload 5, 2) := by decide +kernel
theorem dX0_longest_36 : decode cX0_longest 36 = .ok (.ior, 1) := by decide +kernel
theorem dX0_longest_37 : decode cX0_longest 37 = .ok (.istore_n 3, 1) := by decide +kernel
theorem dX0_longest_38 : decode cX0_longest 38 = .ok (.iinc 4 1, 3) := by decide +kernel
theorem dX0_longest_41 : decode cX0_longest 41 = .ok (.goto (-34), 3) := by decide +kernel
theorem dX0_longest_44 : decode cX0_longest 44 = .ok (.iload_n 2, 1) := by decide +kernel
theorem dX0_longest_45 : decode cX0_longest 45 = .ok (.ireturn, 1) := by decide +kernel
abbrev cX0_firstOnes : ByteArray := prog_1_method_17_code
def yX0_firstOnes : MethodName := ⟨RX0, "firstOnes", "(I)I"⟩
theorem dX0_firstOnes_0 : decode cX0_firstOnes 0 = .ok (.iconst 0, 1) := by decide +kernel
theorem dX0_firstOnes_1 : decode cX0_firstOnes 1 = .ok (.istore_n 2, 1) := by decide +kernel
theorem dX0_firstOnes_2 : decode cX0_firstOnes 2 = .ok (.iconst 0, 1) := by decide +kernel
theorem dX0_firstOnes_3 : decode cX0_firstOnes 3 = .ok (.istore_n 3, 1) := by decide +kernel
theorem dX0_firstOnes_4 : decode cX0_firstOnes 4 = .ok (.iload_n 3, 1) := by decide +kernel
theorem dX0_firstOnes_5 : decode cX0_firstOnes 5 = .ok (.bipush 10, 2) := by decide +kernel
theorem dX0_firstOnes_7 : decode cX0_firstOnes 7 = .ok (.if_icmp .ge 34, 3) := by decide +kernel
theorem dX0_firstOnes_10 : decode cX0_firstOnes 10 = .ok (.iload_n 1, 1) := by decide +kernel
theorem dX0_firstOnes_11 : decode cX0_firstOnes 11 = .ok (.iload_n 3, 1) := by decide +kernel
theorem dX0_firstOnes_12 : decode cX0_firstOnes 12 = .ok (.iushr, 1) := by decide +kernel
theorem dX0_firstOnes_13 : decode cX0_firstOnes 13 = .ok (.iconst 1, 1) := by decide +kernel
theorem dX0_firstOnes_14 : decode cX0_firstOnes 14 = .ok (.iand, 1) := by decide +kernel
theorem dX0_firstOnes_15 : decode cX0_firstOnes 15 = .ok (.ifCond .eq 20, 3) := by decide +kernel
theorem dX0_firstOnes_18 : decode cX0_firstOnes 18 = .ok (.aload_n 0, 1) := by decide +kernel
theorem dX0_firstOnes_19 : decode cX0_firstOnes 19 = .ok (.getfield 13, 3) := by decide +kernel
theorem dX0_firstOnes_22 : decode cX0_firstOnes 22 = .ok (.iload_n 3, 1) := by decide +kernel
theorem dX0_firstOnes_23 : decode cX0_firstOnes 23 = .ok (.iaload, 1) := by decide +kernel
theorem dX0_firstOnes_24 : decode cX0_firstOnes 24 = .ok (.iload_n 1, 1) := by decide +kernel
theorem dX0_firstOnes_25 : decode cX0_firstOnes 25 = .ok (.iand, 1) := by decide +kernel
theorem dX0_firstOnes_26 : decode cX0_firstOnes 26 = .ok (.ifCond .ne 9, 3) := by decide +kernel
theorem dX0_firstOnes_29 : decode cX0_firstOnes 29 = .ok (.iload_n 2, 1) := by decide +kernel
theorem dX0_firstOnes_30 : decode cX0_firstOnes 30 = .ok (.iconst 1, 1) := by decide +kernel
theorem dX0_firstOnes_31 : decode cX0_firstOnes 31 = .ok (.iload_n 3, 1) := by decide +kernel
theorem dX0_firstOnes_32 : decode cX0_firstOnes 32 = .ok (.ishl, 1) := by decide +kernel
theorem dX0_firstOnes_33 : decode cX0_firstOnes 33 = .ok (.ior, 1) := by decide +kernel
theorem dX0_firstOnes_34 : decode cX0_firstOnes 34 = .ok (.istore_n 2, 1) := by decide +kernel
theorem dX0_firstOnes_35 : decode cX0_firstOnes 35 = .ok (.iinc 3 1, 3) := by decide +kernel
theorem dX0_firstOnes_38 : decode cX0_firstOnes 38 = .ok (.goto (-34), 3) := by decide +kernel
theorem dX0_firstOnes_41 : decode cX0_firstOnes 41 = .ok (.iload_n 2, 1) := by decide +kernel
theorem dX0_firstOnes_42 : decode cX0_firstOnes 42 = .ok (.ireturn, 1) := by decide +kernel
abbrev cX0_widthBeside : ByteArray := prog_1_method_11_code
def yX0_widthBeside : MethodName := ⟨RX0, "widthBeside", "(IZ)I"⟩
theorem dX0_widthBeside_0 : decode cX0_widthBeside 0 = .ok (.iload_n 1, 1) := by decide +kernel
theorem dX0_widthBeside_1 : decode cX0_widthBeside 1 = .ok (.invokestatic 28, 3) := by decide +kernel
theorem dX0_widthBeside_4 : decode cX0_widthBeside 4 = .ok (.ifCond .ne 5, 3) := by decide +kernel
theorem dX0_widthBeside_7 : decode cX0_widthBeside 7 = .ok (.iconst (-1), 1) := by decide +kernel
theorem dX0_widthBeside_8 : decode cX0_widthBeside 8 = .ok (.ireturn, 1) := by decide +kernel
theorem dX0_widthBeside_9 : decode cX0_widthBeside 9 = .ok (.aload_n 0, 1) := by decide +kernel
theorem dX0_widthBeside_10 : decode cX0_widthBeside 10 = .ok (.iload_n 2, 1) := by decide +kernel
theorem dX0_widthBeside_11 : decode cX0_widthBeside 11 = .ok (.ifCond .eq 12, 3) := by decide +kernel
theorem dX0_widthBeside_14 : decode cX0_widthBeside 14 = .ok (.aload_n 0, 1) := by decide +kernel
theorem dX0_widthBeside_15 : decode cX0_widthBeside 15 = .ok (.getfield 7, 3) := by decide +kernel
theorem dX0_widthBeside_18 : decode cX0_widthBeside 18 = .ok (.iload_n 1, 1) := by decide +kernel
theorem dX0_widthBeside_19 : decode cX0_widthBeside 19 = .ok (.iaload, 1) := by decide +kernel
theorem dX0_widthBeside_20 : decode cX0_widthBeside 20 = .ok (.goto 9, 3) := by decide +kernel
theorem dX0_widthBeside_23 : decode cX0_widthBeside 23 = .ok (.aload_n 0, 1) := by decide +kernel
theorem dX0_widthBeside_24 : decode cX0_widthBeside 24 = .ok (.getfield 13, 3) := by decide +kernel
theorem dX0_widthBeside_27 : decode cX0_widthBeside 27 = .ok (.iload_n 1, 1) := by decide +kernel
theorem dX0_widthBeside_28 : decode cX0_widthBeside 28 = .ok (.iaload, 1) := by decide +kernel
theorem dX0_widthBeside_29 : decode cX0_widthBeside 29 = .ok (.invokevirtual 36, 3) := by decide +kernel
theorem dX0_widthBeside_32 : decode cX0_widthBeside 32 = .ok (.ireturn, 1) := by decide +kernel
theorem q13 : (Jvm.Cond.initialized "PosetWidth") ∈ lw_all := lw_g (lw_at lw_m0 1 rfl) rfl
theorem q16 : (Jvm.Cond.instantiable "PosetWidth" (7 : Nat)) ∈ lw_all := lw_g (lw_at lw_m0 4 rfl) rfl
theorem q18 : (Jvm.Cond.instanceMethod ({ cls := "PosetWidth", name := "<init>", desc := "()V" } : Jvm.MethodName)) ∈ lw_all := lw_g (lw_at lw_m0 6 rfl) rfl
theorem q19 : (Jvm.Cond.code ({ cls := "PosetWidth", name := "<init>", desc := "()V" } : Jvm.MethodName) prog_1_method_1_code (1 : Nat) (Option.none : Option Jvm.ClassFile.FieldType)) ∈ lw_all := lw_g (lw_at lw_m0 7 rfl) rfl
theorem q20 : (Jvm.Cond.methodLink "PosetWidth" (1 : Nat) ({ cls := "java/lang/Object", name := "<init>", desc := "()V" } : Jvm.MethodName)) ∈ lw_all := lw_g (lw_at lw_m0 8 rfl) rfl
theorem q23 : (Jvm.Cond.fieldLink "PosetWidth" (7 : Nat) "PosetWidth" "after" "[I") ∈ lw_all := lw_g (lw_at lw_m0 11 rfl) rfl
theorem q24 : (Jvm.Cond.fieldLink "PosetWidth" (13 : Nat) "PosetWidth" "ahead" "[I") ∈ lw_all := lw_g (lw_at lw_m0 12 rfl) rfl
theorem q25 : (Jvm.Cond.fieldLink "PosetWidth" (16 : Nat) "PosetWidth" "nextOf" "[I") ∈ lw_all := lw_g (lw_at lw_m0 13 rfl) rfl
theorem q26 : (Jvm.Cond.fieldLink "PosetWidth" (19 : Nat) "PosetWidth" "previousOf" "[I") ∈ lw_all := lw_g (lw_at lw_m0 14 rfl) rfl
theorem q27 : (Jvm.Cond.fieldLink "PosetWidth" (22 : Nat) "PosetWidth" "reachedFrom" "[I") ∈ lw_all := lw_g (lw_at lw_m0 15 rfl) rfl
theorem q28 : (Jvm.Cond.fieldLink "PosetWidth" (25 : Nat) "PosetWidth" "queue" "[I") ∈ lw_all := lw_g (lw_at lw_m0 16 rfl) rfl
theorem q29 : (Jvm.Cond.fieldLink "PosetWidth" (59 : Nat) "PosetWidth" "queueEnd" "I") ∈ lw_all := lw_g (lw_at lw_m0 17 rfl) rfl
theorem q30 : (Jvm.Cond.laysFinal "PosetWidth" "PosetWidth" "after" "[I") ∈ lw_all := lw_g (lw_at lw_m0 18 rfl) rfl
theorem q31 : (Jvm.Cond.soleField "PosetWidth" "after") ∈ lw_all := lw_g (lw_at lw_m0 19 rfl) rfl
theorem q32 : (Jvm.Cond.laysFinal "PosetWidth" "PosetWidth" "ahead" "[I") ∈ lw_all := lw_g (lw_at lw_m0 20 rfl) rfl
theorem q33 : (Jvm.Cond.soleField "PosetWidth" "ahead") ∈ lw_all := lw_g (lw_at lw_m0 21 rfl) rfl
theorem q34 : (Jvm.Cond.laysFinal "PosetWidth" "PosetWidth" "nextOf" "[I") ∈ lw_all := lw_g (lw_at lw_m0 22 rfl) rfl
theorem q35 : (Jvm.Cond.soleField "PosetWidth" "nextOf") ∈ lw_all := lw_g (lw_at lw_m0 23 rfl) rfl
theorem q36 : (Jvm.Cond.laysFinal "PosetWidth" "PosetWidth" "previousOf" "[I") ∈ lw_all := lw_g (lw_at lw_m0 24 rfl) rfl
theorem q37 : (Jvm.Cond.soleField "PosetWidth" "previousOf") ∈ lw_all := lw_g (lw_at lw_m0 25 rfl) rfl
theorem q38 : (Jvm.Cond.laysFinal "PosetWidth" "PosetWidth" "reachedFrom" "[I") ∈ lw_all := lw_g (lw_at lw_m0 26 rfl) rfl
theorem q39 : (Jvm.Cond.soleField "PosetWidth" "reachedFrom") ∈ lw_all := lw_g (lw_at lw_m0 27 rfl) rfl
theorem q40 : (Jvm.Cond.laysFinal "PosetWidth" "PosetWidth" "queue" "[I") ∈ lw_all := lw_g (lw_at lw_m0 28 rfl) rfl
theorem q41 : (Jvm.Cond.soleField "PosetWidth" "queue") ∈ lw_all := lw_g (lw_at lw_m0 29 rfl) rfl
theorem q42 : (Jvm.Cond.lays "PosetWidth" "PosetWidth" "queueEnd" "I") ∈ lw_all := lw_g (lw_at lw_m0 30 rfl) rfl
theorem q43 : (Jvm.Cond.soleField "PosetWidth" "queueEnd") ∈ lw_all := lw_g (lw_at lw_m0 31 rfl) rfl
theorem q44 : (Jvm.Cond.superclass "PosetWidth" "java/lang/Object") ∈ lw_all := lw_g (lw_at lw_m0 32 rfl) rfl
theorem q47 : (Jvm.Cond.instanceMethod ({ cls := "PosetWidth", name := "put", desc := "(II)I" } : Jvm.MethodName)) ∈ lw_all := lw_g (lw_at lw_m0 35 rfl) rfl
theorem q48 : (Jvm.Cond.selects "PosetWidth" ({ cls := "PosetWidth", name := "put", desc := "(II)I" } : Jvm.MethodName) ({ cls := "PosetWidth", name := "put", desc := "(II)I" } : Jvm.MethodName)) ∈ lw_all := lw_g (lw_at lw_m0 36 rfl) rfl
theorem q49 : (Jvm.Cond.code ({ cls := "PosetWidth", name := "put", desc := "(II)I" } : Jvm.MethodName) prog_1_method_2_code (6 : Nat) (Option.some Jvm.ClassFile.FieldType.int)) ∈ lw_all := lw_g (lw_at lw_m0 37 rfl) rfl
theorem q50 : (Jvm.Cond.methodLink "PosetWidth" (28 : Nat) ({ cls := "PosetWidth", name := "isThing", desc := "(I)Z" } : Jvm.MethodName)) ∈ lw_all := lw_g (lw_at lw_m0 38 rfl) rfl
theorem q51 : (Jvm.Cond.static ({ cls := "PosetWidth", name := "isThing", desc := "(I)Z" } : Jvm.MethodName)) ∈ lw_all := lw_g (lw_at lw_m0 39 rfl) rfl
theorem q52 : (Jvm.Cond.code ({ cls := "PosetWidth", name := "isThing", desc := "(I)Z" } : Jvm.MethodName) prog_1_method_12_code (1 : Nat) (Option.some Jvm.ClassFile.FieldType.boolean)) ∈ lw_all := lw_g (lw_at lw_m0 40 rfl) rfl
theorem q53 : (Jvm.Cond.methodLink "PosetWidth" (32 : Nat) ({ cls := "PosetWidth", name := "pairs", desc := "()I" } : Jvm.MethodName)) ∈ lw_all := lw_g (lw_at lw_m0 41 rfl) rfl
theorem q54 : (Jvm.Cond.privateMethod ({ cls := "PosetWidth", name := "pairs", desc := "()I" } : Jvm.MethodName)) ∈ lw_tbl := lw_at lw_m0 42 rfl
theorem q55 : (Jvm.Cond.instanceMethod ({ cls := "PosetWidth", name := "pairs", desc := "()I" } : Jvm.MethodName)) ∈ lw_all := lw_g (lw_at lw_m0 43 rfl) rfl
theorem q56 : (Jvm.Cond.code ({ cls := "PosetWidth", name := "pairs", desc := "()I" } : Jvm.MethodName) prog_1_method_14_code (3 : Nat) (Option.some Jvm.ClassFile.FieldType.int)) ∈ lw_all := lw_g (lw_at lw_m0 44 rfl) rfl
theorem q57 : (Jvm.Cond.methodLink "PosetWidth" (49 : Nat) ({ cls := "PosetWidth", name := "size", desc := "(I)I" } : Jvm.MethodName)) ∈ lw_all := lw_g (lw_at lw_m0 45 rfl) rfl
theorem q58 : (Jvm.Cond.static ({ cls := "PosetWidth", name := "size", desc := "(I)I" } : Jvm.MethodName)) ∈ lw_all := lw_g (lw_at lw_m0 46 rfl) rfl
theorem q59 : (Jvm.Cond.code ({ cls := "PosetWidth", name := "size", desc := "(I)I" } : Jvm.MethodName) prog_1_method_13_code (3 : Nat) (Option.some Jvm.ClassFile.FieldType.int)) ∈ lw_all := lw_g (lw_at lw_m0 47 rfl) rfl
theorem q61 : (Jvm.Cond.instanceMethod ({ cls := "PosetWidth", name := "release", desc := "(I)I" } : Jvm.MethodName)) ∈ lw_all := lw_g (lw_at lw_m0 49 rfl) rfl
theorem q62 : (Jvm.Cond.selects "PosetWidth" ({ cls := "PosetWidth", name := "release", desc := "(I)I" } : Jvm.MethodName) ({ cls := "PosetWidth", name := "release", desc := "(I)I" } : Jvm.MethodName)) ∈ lw_all := lw_g (lw_at lw_m0 50 rfl) rfl
theorem q63 : (Jvm.Cond.code ({ cls := "PosetWidth", name := "release", desc := "(I)I" } : Jvm.MethodName) prog_1_method_3_code (3 : Nat) (Option.some Jvm.ClassFile.FieldType.int)) ∈ lw_all := lw_g (lw_at lw_m0 51 rfl) rfl
theorem q65 : (Jvm.Cond.instanceMethod ({ cls := "PosetWidth", name := "before", desc := "(II)I" } : Jvm.MethodName)) ∈ lw_all := lw_g (lw_at lw_m0 53 rfl) rfl
theorem q66 : (Jvm.Cond.selects "PosetWidth" ({ cls := "PosetWidth", name := "before", desc := "(II)I" } : Jvm.MethodName) ({ cls := "PosetWidth", name := "before", desc := "(II)I" } : Jvm.MethodName)) ∈ lw_all := lw_g (lw_at lw_m0 54 rfl) rfl
theorem q67 : (Jvm.Cond.code ({ cls := "PosetWidth", name := "before", desc := "(II)I" } : Jvm.MethodName) prog_1_method_4_code (3 : Nat) (Option.some Jvm.ClassFile.FieldType.int)) ∈ lw_all := lw_g (lw_at lw_m0 55 rfl) rfl
theorem q69 : (Jvm.Cond.instanceMethod ({ cls := "PosetWidth", name := "width", desc := "()I" } : Jvm.MethodName)) ∈ lw_all := lw_g (lw_at lw_m0 57 rfl) rfl
theorem q70 : (Jvm.Cond.selects "PosetWidth" ({ cls := "PosetWidth", name := "width", desc := "()I" } : Jvm.MethodName) ({ cls := "PosetWidth", name := "width", desc := "()I" } : Jvm.MethodName)) ∈ lw_all := lw_g (lw_at lw_m0 58 rfl) rfl
theorem q71 : (Jvm.Cond.code ({ cls := "PosetWidth", name := "width", desc := "()I" } : Jvm.MethodName) prog_1_method_5_code (1 : Nat) (Option.some Jvm.ClassFile.FieldType.int)) ∈ lw_all := lw_g (lw_at lw_m0 59 rfl) rfl
theorem q72 : (Jvm.Cond.methodLink "PosetWidth" (36 : Nat) ({ cls := "PosetWidth", name := "widthOf", desc := "(I)I" } : Jvm.MethodName)) ∈ lw_all := lw_g (lw_at lw_m0 60 rfl) rfl
theorem q73 : (Jvm.Cond.privateMethod ({ cls := "PosetWidth", name := "widthOf", desc := "(I)I" } : Jvm.MethodName)) ∈ lw_tbl := lw_at lw_m0 61 rfl
theorem q74 : (Jvm.Cond.instanceMethod ({ cls := "PosetWidth", name := "widthOf", desc := "(I)I" } : Jvm.MethodName)) ∈ lw_all := lw_g (lw_at lw_m0 62 rfl) rfl
theorem q75 : (Jvm.Cond.code ({ cls := "PosetWidth", name := "widthOf", desc := "(I)I" } : Jvm.MethodName) prog_1_method_18_code (5 : Nat) (Option.some Jvm.ClassFile.FieldType.int)) ∈ lw_all := lw_g (lw_at lw_m0 63 rfl) rfl
theorem q76 : (Jvm.Cond.methodLink "PosetWidth" (55 : Nat) ({ cls := "PosetWidth", name := "lengthen", desc := "(II)Z" } : Jvm.MethodName)) ∈ lw_all := lw_g (lw_at lw_m0 64 rfl) rfl
theorem q77 : (Jvm.Cond.privateMethod ({ cls := "PosetWidth", name := "lengthen", desc := "(II)Z" } : Jvm.MethodName)) ∈ lw_tbl := lw_at lw_m0 65 rfl
theorem q78 : (Jvm.Cond.instanceMethod ({ cls := "PosetWidth", name := "lengthen", desc := "(II)Z" } : Jvm.MethodName)) ∈ lw_all := lw_g (lw_at lw_m0 66 rfl) rfl
theorem q79 : (Jvm.Cond.code ({ cls := "PosetWidth", name := "lengthen", desc := "(II)Z" } : Jvm.MethodName) prog_1_method_19_code (5 : Nat) (Option.some Jvm.ClassFile.FieldType.boolean)) ∈ lw_all := lw_g (lw_at lw_m0 67 rfl) rfl
theorem q80 : (Jvm.Cond.methodLink "PosetWidth" (63 : Nat) ({ cls := "PosetWidth", name := "spread", desc := "(II)I" } : Jvm.MethodName)) ∈ lw_all := lw_g (lw_at lw_m0 68 rfl) rfl
theorem q81 : (Jvm.Cond.privateMethod ({ cls := "PosetWidth", name := "spread", desc := "(II)I" } : Jvm.MethodName)) ∈ lw_tbl := lw_at lw_m0 69 rfl
theorem q82 : (Jvm.Cond.instanceMethod ({ cls := "PosetWidth", name := "spread", desc := "(II)I" } : Jvm.MethodName)) ∈ lw_all := lw_g (lw_at lw_m0 70 rfl) rfl
theorem q83 : (Jvm.Cond.code ({ cls := "PosetWidth", name := "spread", desc := "(II)I" } : Jvm.MethodName) prog_1_method_20_code (4 : Nat) (Option.some Jvm.ClassFile.FieldType.int)) ∈ lw_all := lw_g (lw_at lw_m0 71 rfl) rfl
theorem q84 : (Jvm.Cond.methodLink "PosetWidth" (67 : Nat) ({ cls := "PosetWidth", name := "turnWay", desc := "(I)V" } : Jvm.MethodName)) ∈ lw_all := lw_g (lw_at lw_m0 72 rfl) rfl
theorem q85 : (Jvm.Cond.privateMethod ({ cls := "PosetWidth", name := "turnWay", desc := "(I)V" } : Jvm.MethodName)) ∈ lw_tbl := lw_at lw_m0 73 rfl
theorem q86 : (Jvm.Cond.instanceMethod ({ cls := "PosetWidth", name := "turnWay", desc := "(I)V" } : Jvm.MethodName)) ∈ lw_all := lw_g (lw_at lw_m0 74 rfl) rfl
theorem q87 : (Jvm.Cond.code ({ cls := "PosetWidth", name := "turnWay", desc := "(I)V" } : Jvm.MethodName) prog_1_method_21_code (6 : Nat) (Option.none : Option Jvm.ClassFile.FieldType)) ∈ lw_all := lw_g (lw_at lw_m0 75 rfl) rfl
theorem q89 : (Jvm.Cond.instanceMethod ({ cls := "PosetWidth", name := "widthWith", desc := "(I)I" } : Jvm.MethodName)) ∈ lw_all := lw_g (lw_at lw_m0 77 rfl) rfl
theorem q90 : (Jvm.Cond.selects "PosetWidth" ({ cls := "PosetWidth", name := "widthWith", desc := "(I)I" } : Jvm.MethodName) ({ cls := "PosetWidth", name := "widthWith", desc := "(I)I" } : Jvm.MethodName)) ∈ lw_all := lw_g (lw_at lw_m0 78 rfl) rfl
theorem q91 : (Jvm.Cond.code ({ cls := "PosetWidth", name := "widthWith", desc := "(I)I" } : Jvm.MethodName) prog_1_method_6_code (3 : Nat) (Option.some Jvm.ClassFile.FieldType.int)) ∈ lw_all := lw_g (lw_at lw_m0 79 rfl) rfl
theorem q92 : (Jvm.Cond.methodLink "PosetWidth" (40 : Nat) ({ cls := "PosetWidth", name := "besides", desc := "(I)I" } : Jvm.MethodName)) ∈ lw_all := lw_g (lw_at lw_m0 80 rfl) rfl
theorem q93 : (Jvm.Cond.privateMethod ({ cls := "PosetWidth", name := "besides", desc := "(I)I" } : Jvm.MethodName)) ∈ lw_tbl := lw_at lw_m0 81 rfl
theorem q94 : (Jvm.Cond.instanceMethod ({ cls := "PosetWidth", name := "besides", desc := "(I)I" } : Jvm.MethodName)) ∈ lw_all := lw_g (lw_at lw_m0 82 rfl) rfl
theorem q95 : (Jvm.Cond.code ({ cls := "PosetWidth", name := "besides", desc := "(I)I" } : Jvm.MethodName) prog_1_method_15_code (2 : Nat) (Option.some Jvm.ClassFile.FieldType.int)) ∈ lw_all := lw_g (lw_at lw_m0 83 rfl) rfl
theorem q97 : (Jvm.Cond.instanceMethod ({ cls := "PosetWidth", name := "widthWithout", desc := "(I)I" } : Jvm.MethodName)) ∈ lw_all := lw_g (lw_at lw_m0 85 rfl) rfl
theorem q98 : (Jvm.Cond.selects "PosetWidth" ({ cls := "PosetWidth", name := "widthWithout", desc := "(I)I" } : Jvm.MethodName) ({ cls := "PosetWidth", name := "widthWithout", desc := "(I)I" } : Jvm.MethodName)) ∈ lw_all := lw_g (lw_at lw_m0 86 rfl) rfl
theorem q99 : (Jvm.Cond.code ({ cls := "PosetWidth", name := "widthWithout", desc := "(I)I" } : Jvm.MethodName) prog_1_method_7_code (2 : Nat) (Option.some Jvm.ClassFile.FieldType.int)) ∈ lw_all := lw_g (lw_at lw_m0 87 rfl) rfl
theorem q101 : (Jvm.Cond.instanceMethod ({ cls := "PosetWidth", name := "chosen", desc := "(I)I" } : Jvm.MethodName)) ∈ lw_all := lw_g (lw_at lw_m0 89 rfl) rfl
theorem q102 : (Jvm.Cond.selects "PosetWidth" ({ cls := "PosetWidth", name := "chosen", desc := "(I)I" } : Jvm.MethodName) ({ cls := "PosetWidth", name := "chosen", desc := "(I)I" } : Jvm.MethodName)) ∈ lw_all := lw_g (lw_at lw_m0 90 rfl) rfl
theorem q103 : (Jvm.Cond.code ({ cls := "PosetWidth", name := "chosen", desc := "(I)I" } : Jvm.MethodName) prog_1_method_8_code (7 : Nat) (Option.some Jvm.ClassFile.FieldType.int)) ∈ lw_all := lw_g (lw_at lw_m0 91 rfl) rfl
theorem q105 : (Jvm.Cond.instanceMethod ({ cls := "PosetWidth", name := "height", desc := "()I" } : Jvm.MethodName)) ∈ lw_all := lw_g (lw_at lw_m0 93 rfl) rfl
theorem q106 : (Jvm.Cond.selects "PosetWidth" ({ cls := "PosetWidth", name := "height", desc := "()I" } : Jvm.MethodName) ({ cls := "PosetWidth", name := "height", desc := "()I" } : Jvm.MethodName)) ∈ lw_all := lw_g (lw_at lw_m0 94 rfl) rfl
theorem q107 : (Jvm.Cond.code ({ cls := "PosetWidth", name := "height", desc := "()I" } : Jvm.MethodName) prog_1_method_9_code (4 : Nat) (Option.some Jvm.ClassFile.FieldType.int)) ∈ lw_all := lw_g (lw_at lw_m0 95 rfl) rfl
theorem q108 : (Jvm.Cond.methodLink "PosetWidth" (43 : Nat) ({ cls := "PosetWidth", name := "heightWith", desc := "(I)I" } : Jvm.MethodName)) ∈ lw_all := lw_g (lw_at lw_m0 96 rfl) rfl
theorem q109 : (Jvm.Cond.instanceMethod ({ cls := "PosetWidth", name := "heightWith", desc := "(I)I" } : Jvm.MethodName)) ∈ lw_all := lw_g (lw_at lw_m0 97 rfl) rfl
theorem q110 : (Jvm.Cond.selects "PosetWidth" ({ cls := "PosetWidth", name := "heightWith", desc := "(I)I" } : Jvm.MethodName) ({ cls := "PosetWidth", name := "heightWith", desc := "(I)I" } : Jvm.MethodName)) ∈ lw_all := lw_g (lw_at lw_m0 98 rfl) rfl
theorem q111 : (Jvm.Cond.code ({ cls := "PosetWidth", name := "heightWith", desc := "(I)I" } : Jvm.MethodName) prog_1_method_10_code (2 : Nat) (Option.some Jvm.ClassFile.FieldType.int)) ∈ lw_all := lw_g (lw_at lw_m0 99 rfl) rfl
theorem q112 : (Jvm.Cond.methodLink "PosetWidth" (46 : Nat) ({ cls := "PosetWidth", name := "longest", desc := "(I)I" } : Jvm.MethodName)) ∈ lw_all := lw_g (lw_at lw_m0 100 rfl) rfl
theorem q113 : (Jvm.Cond.privateMethod ({ cls := "PosetWidth", name := "longest", desc := "(I)I" } : Jvm.MethodName)) ∈ lw_tbl := lw_at lw_m0 101 rfl
theorem q114 : (Jvm.Cond.instanceMethod ({ cls := "PosetWidth", name := "longest", desc := "(I)I" } : Jvm.MethodName)) ∈ lw_all := lw_g (lw_at lw_m0 102 rfl) rfl
theorem q115 : (Jvm.Cond.code ({ cls := "PosetWidth", name := "longest", desc := "(I)I" } : Jvm.MethodName) prog_1_method_16_code (6 : Nat) (Option.some Jvm.ClassFile.FieldType.int)) ∈ lw_all := lw_g (lw_at lw_m0 103 rfl) rfl
theorem q116 : (Jvm.Cond.methodLink "PosetWidth" (52 : Nat) ({ cls := "PosetWidth", name := "firstOnes", desc := "(I)I" } : Jvm.MethodName)) ∈ lw_all := lw_g (lw_at lw_m0 104 rfl) rfl
theorem q117 : (Jvm.Cond.privateMethod ({ cls := "PosetWidth", name := "firstOnes", desc := "(I)I" } : Jvm.MethodName)) ∈ lw_tbl := lw_at lw_m0 105 rfl
theorem q118 : (Jvm.Cond.instanceMethod ({ cls := "PosetWidth", name := "firstOnes", desc := "(I)I" } : Jvm.MethodName)) ∈ lw_all := lw_g (lw_at lw_m0 106 rfl) rfl
theorem q119 : (Jvm.Cond.code ({ cls := "PosetWidth", name := "firstOnes", desc := "(I)I" } : Jvm.MethodName) prog_1_method_17_code (4 : Nat) (Option.some Jvm.ClassFile.FieldType.int)) ∈ lw_all := lw_g (lw_at lw_m0 107 rfl) rfl
theorem q122 : (Jvm.Cond.instanceMethod ({ cls := "PosetWidth", name := "widthBeside", desc := "(IZ)I" } : Jvm.MethodName)) ∈ lw_all := lw_g (lw_at lw_m0 110 rfl) rfl
theorem q123 : (Jvm.Cond.selects "PosetWidth" ({ cls := "PosetWidth", name := "widthBeside", desc := "(IZ)I" } : Jvm.MethodName) ({ cls := "PosetWidth", name := "widthBeside", desc := "(IZ)I" } : Jvm.MethodName)) ∈ lw_all := lw_g (lw_at lw_m0 111 rfl) rfl
theorem q124 : (Jvm.Cond.code ({ cls := "PosetWidth", name := "widthBeside", desc := "(IZ)I" } : Jvm.MethodName) prog_1_method_11_code (3 : Nat) (Option.some Jvm.ClassFile.FieldType.int)) ∈ lw_all := lw_g (lw_at lw_m0 112 rfl) rfl
theorem in_X0 : ∀ w ∈ wsX00, w ∈ lw_all := lw_in wsX00 [30, 32, 34, 36, 38, 40, 42] (by decide +kernel) (by decide +kernel)
end
section
/-! PosetWidthModel -/
set_option maxRecDepth 100000
def RX1 : String := "PosetWidthModel"
def TX1 : u_T := fun k => match k with
  | _ => ("PosetWidthModel", "first", "[Z", true)
def tyX1 : Nat → FieldType := fun k => match k with
  | _ => .array .boolean
abbrev wsX10 : List Cond := u_ws RX1 TX1 1
theorem nmX1 : ∀ a, a < 1 → ∀ b, b < 1 → a ≠ b → (TX1 a).2.1 ≠ (TX1 b).2.1 := by decide +kernel
theorem tyX1_ok : ∀ k, k < 1 → parseFieldDescriptor (TX1 k).2.2.1 = some (tyX1 k) := by decide +kernel
abbrev cX1_init : ByteArray := prog_3_method_1_code
def yX1_init : MethodName := ⟨RX1, "<init>", "()V"⟩
theorem dX1_init_0 : decode cX1_init 0 = .ok (.aload_n 0, 1) := by decide +kernel
theorem dX1_init_1 : decode cX1_init 1 = .ok (.invokespecial 1, 3) := by decide +kernel
theorem dX1_init_4 : decode cX1_init 4 = .ok (.aload_n 0, 1) := by decide +kernel
theorem dX1_init_5 : decode cX1_init 5 = .ok (.bipush 100, 2) := by decide +kernel
theorem dX1_init_7 : decode cX1_init 7 = .ok (.newarray .boolean, 2) := by decide +kernel
theorem dX1_init_9 : decode cX1_init 9 = .ok (.putfield 7, 3) := by decide +kernel
theorem dX1_init_12 : decode cX1_init 12 = .ok (.return_, 1) := by decide +kernel
abbrev cX1_put : ByteArray := prog_3_method_4_code
def yX1_put : MethodName := ⟨RX1, "put", "(II)I"⟩
theorem dX1_put_0 : decode cX1_put 0 = .ok (.iload_n 1, 1) := by decide +kernel
theorem dX1_put_1 : decode cX1_put 1 = .ok (.invokestatic 13, 3) := by decide +kernel
theorem dX1_put_4 : decode cX1_put 4 = .ok (.ifCond .ne 29, 3) := by decide +kernel
theorem dX1_put_7 : decode cX1_put 7 = .ok (.iload_n 2, 1) := by decide +kernel
theorem dX1_put_8 : decode cX1_put 8 = .ok (.invokestatic 13, 3) := by decide +kernel
theorem dX1_put_11 : decode cX1_put 11 = .ok (.ifCond .ne 22, 3) := by decide +kernel
theorem dX1_put_14 : decode cX1_put 14 = .ok (.iload_n 1, 1) := by decide +kernel
theorem dX1_put_15 : decode cX1_put 15 = .ok (.iload_n 2, 1) := by decide +kernel
theorem dX1_put_16 : decode cX1_put 16 = .ok (.if_icmp .eq 17, 3) := by decide +kernel
theorem dX1_put_19 : decode cX1_put 19 = .ok (.aload_n 0, 1) := by decide +kernel
theorem dX1_put_20 : decode cX1_put 20 = .ok (.getfield 7, 3) := by decide +kernel
theorem dX1_put_23 : decode cX1_put 23 = .ok (.bipush 10, 2) := by decide +kernel
theorem dX1_put_25 : decode cX1_put 25 = .ok (.iload_n 2, 1) := by decide +kernel
theorem dX1_put_26 : decode cX1_put 26 = .ok (.imul, 1) := by decide +kernel
theorem dX1_put_27 : decode cX1_put 27 = .ok (.iload_n 1, 1) := by decide +kernel
theorem dX1_put_28 : decode cX1_put 28 = .ok (.iadd, 1) := by decide +kernel
theorem dX1_put_29 : decode cX1_put 29 = .ok (.baload, 1) := by decide +kernel
theorem dX1_put_30 : decode cX1_put 30 = .ok (.ifCond .eq 5, 3) := by decide +kernel
theorem dX1_put_33 : decode cX1_put 33 = .ok (.iconst (-1), 1) := by decide +kernel
theorem dX1_put_34 : decode cX1_put 34 = .ok (.ireturn, 1) := by decide +kernel
theorem dX1_put_35 : decode cX1_put 35 = .ok (.iconst 0, 1) := by decide +kernel
theorem dX1_put_36 : decode cX1_put 36 = .ok (.istore_n 3, 1) := by decide +kernel
theorem dX1_put_37 : decode cX1_put 37 = .ok (.iload_n 3, 1) := by decide +kernel
theorem dX1_put_38 : decode cX1_put 38 = .ok (.bipush 10, 2) := by decide +kernel
theorem dX1_put_40 : decode cX1_put 40 = .ok (.if_icmp .ge 102, 3) := by decide +kernel
theorem dX1_put_43 : decode cX1_put 43 = .ok (.iconst 0, 1) := by decide +kernel
theorem dX1_put_44 : decode cX1_put 44 = .ok (.istore 4, 2) := by decide +kernel
theorem dX1_put_46 : decode cX1_put 46 = .ok (.iload 4, 2) := by decide +kernel
theorem dX1_put_48 : decode cX1_put 48 = .ok (.bipush 10, 2) := by decide +kernel
theorem dX1_put_50 : decode cX1_put 50 = .ok (.if_icmp .ge 86, 3) := by decide +kernel
theorem dX1_put_53 : decode cX1_put 53 = .ok (.iload_n 3, 1) := by decide +kernel
theorem dX1_put_54 : decode cX1_put 54 = .ok (.iload_n 1, 1) := by decide +kernel
theorem dX1_put_55 : decode cX1_put 55 = .ok (.if_icmp .eq 17, 3) := by decide +kernel
theorem dX1_put_58 : decode cX1_put 58 = .ok (.aload_n 0, 1) := by decide +kernel
theorem dX1_put_59 : decode cX1_put 59 = .ok (.getfield 7, 3) := by decide +kernel
theorem dX1_put_62 : decode cX1_put 62 = .ok (.bipush 10, 2) := by decide +kernel
theorem dX1_put_64 : decode cX1_put 64 = .ok (.iload_n 3, 1) := by decide +kernel
theorem dX1_put_65 : decode cX1_put 65 = .ok (.imul, 1) := by decide +kernel
theorem dX1_put_66 : decode cX1_put 66 = .ok (.iload_n 1, 1) := by decide +kernel
theorem dX1_put_67 : decode cX1_put 67 = .ok (.iadd, 1) := by decide +kernel
theorem dX1_put_68 : decode cX1_put 68 = .ok (.baload, 1) := by decide +kernel
theorem dX1_put_69 : decode cX1_put 69 = .ok (.ifCond .eq 7, 3) := by decide +kernel
theorem dX1_put_72 : decode cX1_put 72 = .ok (.iconst 1, 1) := by decide +kernel
theorem dX1_put_73 : decode cX1_put 73 = .ok (.goto 4, 3) := by decide +kernel
theorem dX1_put_76 : decode cX1_put 76 = .ok (.iconst 0, 1) := by decide +kernel
theorem dX1_put_77 : decode cX1_put 77 = .ok (.istore 5, 2) := by decide +kernel
theorem dX1_put_79 : decode cX1_put 79 = .ok (.iload 4, 2) := by decide +kernel
theorem dX1_put_81 : decode cX1_put 81 = .ok (.iload_n 2, 1) := by decide +kernel
theorem dX1_put_82 : decode cX1_put 82 = .ok (.if_icmp .eq 18, 3) := by decide +kernel
theorem dX1_put_85 : decode cX1_put 85 = .ok (.aload_n 0, 1) := by decide +kernel
theorem dX1_put_86 : decode cX1_put 86 = .ok (.getfield 7, 3) := by decide +kernel
theorem dX1_put_89 : decode cX1_put 89 = .ok (.bipush 10, 2) := by decide +kernel
theorem dX1_put_91 : decode cX1_put 91 = .ok (.iload_n 2, 1) := by decide +kernel
theorem dX1_put_92 : decode cX1_put 92 = .ok (.imul, 1) := by decide +kernel
theorem dX1_put_93 : decode cX1_put 93 = .ok (.iload 4, 2) := by decide +kernel
theorem dX1_put_95 : decode cX1_put 95 = .ok (.iadd, 1) := by decide +kernel
theorem dX1_put_96 : decode cX1_put 96 = .ok (.baload, 1) := by decide +kernel
theorem dX1_put_97 : decode cX1_put 97 = .ok (.ifCond .eq 7, 3) := by decide +kernel
theorem dX1_put_100 : decode cX1_put 100 = .ok (.iconst 1, 1) := by decide +kernel
theorem dX1_put_101 : decode cX1_put 101 = .ok (.goto 4, 3) := by decide +kernel
theorem dX1_put_104 : decode cX1_put 104 = .ok (.iconst 0, 1) := by decide +kernel
theorem dX1_put_105 : decode cX1_put 105 = .ok (.istore 6, 2) := by decide +kernel
theorem dX1_put_107 : decode cX1_put 107 = .ok (.iload 5, 2) := by decide +kernel
theorem dX1_put_109 : decode cX1_put 109 = .ok (.ifCond .eq 21, 3) := by decide +kernel
theorem dX1_put_112 : decode cX1_put 112 = .ok (.iload 6, 2) := by decide +kernel
theorem dX1_put_114 : decode cX1_put 114 = .ok (.ifCond .eq 16, 3) := by decide +kernel
theorem dX1_put_117 : decode cX1_put 117 = .ok (.aload_n 0, 1) := by decide +kernel
theorem dX1_put_118 : decode cX1_put 118 = .ok (.getfield 7, 3) := by decide +kernel
theorem dX1_put_121 : decode cX1_put 121 = .ok (.bipush 10, 2) := by decide +kernel
theorem dX1_put_123 : decode cX1_put 123 = .ok (.iload_n 3, 1) := by decide +kernel
theorem dX1_put_124 : decode cX1_put 124 = .ok (.imul, 1) := by decide +kernel
theorem dX1_put_125 : decode cX1_put 125 = .ok (.iload 4, 2) := by decide +kernel
theorem dX1_put_127 : decode cX1_put 127 = .ok (.iadd, 1) := by decide +kernel
theorem dX1_put_128 : decode cX1_put 128 = .ok (.iconst 1, 1) := by decide +kernel
theorem dX1_put_129 : decode cX1_put 129 = .ok (.bastore, 1) := by decide +kernel
theorem dX1_put_130 : decode cX1_put 130 = .ok (.iinc 4 1, 3) := by decide +kernel
theorem dX1_put_133 : decode cX1_put 133 = .ok (.goto (-87), 3) := by decide +kernel
theorem dX1_put_136 : decode cX1_put 136 = .ok (.iinc 3 1, 3) := by decide +kernel
theorem dX1_put_139 : decode cX1_put 139 = .ok (.goto (-102), 3) := by decide +kernel
theorem dX1_put_142 : decode cX1_put 142 = .ok (.aload_n 0, 1) := by decide +kernel
theorem dX1_put_143 : decode cX1_put 143 = .ok (.invokevirtual 17, 3) := by decide +kernel
theorem dX1_put_146 : decode cX1_put 146 = .ok (.ireturn, 1) := by decide +kernel
abbrev cX1_bad : ByteArray := prog_3_method_2_code
def yX1_bad : MethodName := ⟨RX1, "bad", "(I)Z"⟩
theorem dX1_bad_0 : decode cX1_bad 0 = .ok (.iload_n 0, 1) := by decide +kernel
theorem dX1_bad_1 : decode cX1_bad 1 = .ok (.ifCond .lt 9, 3) := by decide +kernel
theorem dX1_bad_4 : decode cX1_bad 4 = .ok (.iload_n 0, 1) := by decide +kernel
theorem dX1_bad_5 : decode cX1_bad 5 = .ok (.bipush 9, 2) := by decide +kernel
theorem dX1_bad_7 : decode cX1_bad 7 = .ok (.if_icmp .le 7, 3) := by decide +kernel
theorem dX1_bad_10 : decode cX1_bad 10 = .ok (.iconst 1, 1) := by decide +kernel
theorem dX1_bad_11 : decode cX1_bad 11 = .ok (.goto 4, 3) := by decide +kernel
theorem dX1_bad_14 : decode cX1_bad 14 = .ok (.iconst 0, 1) := by decide +kernel
theorem dX1_bad_15 : decode cX1_bad 15 = .ok (.ireturn, 1) := by decide +kernel
abbrev cX1_pairs : ByteArray := prog_3_method_3_code
def yX1_pairs : MethodName := ⟨RX1, "pairs", "()I"⟩
theorem dX1_pairs_0 : decode cX1_pairs 0 = .ok (.iconst 0, 1) := by decide +kernel
theorem dX1_pairs_1 : decode cX1_pairs 1 = .ok (.istore_n 1, 1) := by decide +kernel
theorem dX1_pairs_2 : decode cX1_pairs 2 = .ok (.iconst 0, 1) := by decide +kernel
theorem dX1_pairs_3 : decode cX1_pairs 3 = .ok (.istore_n 2, 1) := by decide +kernel
theorem dX1_pairs_4 : decode cX1_pairs 4 = .ok (.iload_n 2, 1) := by decide +kernel
theorem dX1_pairs_5 : decode cX1_pairs 5 = .ok (.bipush 100, 2) := by decide +kernel
theorem dX1_pairs_7 : decode cX1_pairs 7 = .ok (.if_icmp .ge 21, 3) := by decide +kernel
theorem dX1_pairs_10 : decode cX1_pairs 10 = .ok (.aload_n 0, 1) := by decide +kernel
theorem dX1_pairs_11 : decode cX1_pairs 11 = .ok (.getfield 7, 3) := by decide +kernel
theorem dX1_pairs_14 : decode cX1_pairs 14 = .ok (.iload_n 2, 1) := by decide +kernel
theorem dX1_pairs_15 : decode cX1_pairs 15 = .ok (.baload, 1) := by decide +kernel
theorem dX1_pairs_16 : decode cX1_pairs 16 = .ok (.ifCond .eq 6, 3) := by decide +kernel
theorem dX1_pairs_19 : decode cX1_pairs 19 = .ok (.iinc 1 1, 3) := by decide +kernel
theorem dX1_pairs_22 : decode cX1_pairs 22 = .ok (.iinc 2 1, 3) := by decide +kernel
theorem dX1_pairs_25 : decode cX1_pairs 25 = .ok (.goto (-21), 3) := by decide +kernel
theorem dX1_pairs_28 : decode cX1_pairs 28 = .ok (.iload_n 1, 1) := by decide +kernel
theorem dX1_pairs_29 : decode cX1_pairs 29 = .ok (.ireturn, 1) := by decide +kernel
abbrev cX1_release : ByteArray := prog_3_method_5_code
def yX1_release : MethodName := ⟨RX1, "release", "(I)I"⟩
theorem dX1_release_0 : decode cX1_release 0 = .ok (.iload_n 1, 1) := by decide +kernel
theorem dX1_release_1 : decode cX1_release 1 = .ok (.invokestatic 13, 3) := by decide +kernel
theorem dX1_release_4 : decode cX1_release 4 = .ok (.ifCond .eq 5, 3) := by decide +kernel
theorem dX1_release_7 : decode cX1_release 7 = .ok (.iconst (-1), 1) := by decide +kernel
theorem dX1_release_8 : decode cX1_release 8 = .ok (.ireturn, 1) := by decide +kernel
theorem dX1_release_9 : decode cX1_release 9 = .ok (.iconst 0, 1) := by decide +kernel
theorem dX1_release_10 : decode cX1_release 10 = .ok (.istore_n 2, 1) := by decide +kernel
theorem dX1_release_11 : decode cX1_release 11 = .ok (.iload_n 2, 1) := by decide +kernel
theorem dX1_release_12 : decode cX1_release 12 = .ok (.bipush 10, 2) := by decide +kernel
theorem dX1_release_14 : decode cX1_release 14 = .ok (.if_icmp .ge 33, 3) := by decide +kernel
theorem dX1_release_17 : decode cX1_release 17 = .ok (.aload_n 0, 1) := by decide +kernel
theorem dX1_release_18 : decode cX1_release 18 = .ok (.getfield 7, 3) := by decide +kernel
theorem dX1_release_21 : decode cX1_release 21 = .ok (.bipush 10, 2) := by decide +kernel
theorem dX1_release_23 : decode cX1_release 23 = .ok (.iload_n 2, 1) := by decide +kernel
theorem dX1_release_24 : decode cX1_release 24 = .ok (.imul, 1) := by decide +kernel
theorem dX1_release_25 : decode cX1_release 25 = .ok (.iload_n 1, 1) := by decide +kernel
theorem dX1_release_26 : decode cX1_release 26 = .ok (.iadd, 1) := by decide +kernel
theorem dX1_release_27 : decode cX1_release 27 = .ok (.iconst 0, 1) := by decide +kernel
theorem dX1_release_28 : decode cX1_release 28 = .ok (.bastore, 1) := by decide +kernel
theorem dX1_release_29 : decode cX1_release 29 = .ok (.aload_n 0, 1) := by decide +kernel
theorem dX1_release_30 : decode cX1_release 30 = .ok (.getfield 7, 3) := by decide +kernel
theorem dX1_release_33 : decode cX1_release 33 = .ok (.bipush 10, 2) := by decide +kernel
theorem dX1_release_35 : decode cX1_release 35 = .ok (.iload_n 1, 1) := by decide +kernel
theorem dX1_release_36 : decode cX1_release 36 = .ok (.imul, 1) := by decide +kernel
theorem dX1_release_37 : decode cX1_release 37 = .ok (.iload_n 2, 1) := by decide +kernel
theorem dX1_release_38 : decode cX1_release 38 = .ok (.iadd, 1) := by decide +kernel
theorem dX1_release_39 : decode cX1_release 39 = .ok (.iconst 0, 1) := by decide +kernel
theorem dX1_release_40 : decode cX1_release 40 = .ok (.bastore, 1) := by decide +kernel
theorem dX1_release_41 : decode cX1_release 41 = .ok (.iinc 2 1, 3) := by decide +kernel
theorem dX1_release_44 : decode cX1_release 44 = .ok (.goto (-33), 3) := by decide +kernel
theorem dX1_release_47 : decode cX1_release 47 = .ok (.aload_n 0, 1) := by decide +kernel
theorem dX1_release_48 : decode cX1_release 48 = .ok (.invokevirtual 17, 3) := by decide +kernel
theorem dX1_release_51 : decode cX1_release 51 = .ok (.ireturn, 1) := by decide +kernel
abbrev cX1_before : ByteArray := prog_3_method_6_code
def yX1_before : MethodName := ⟨RX1, "before", "(II)I"⟩
theorem dX1_before_0 : decode cX1_before 0 = .ok (.iload_n 1, 1) := by decide +kernel
theorem dX1_before_1 : decode cX1_before 1 = .ok (.invokestatic 13, 3) := by decide +kernel
theorem dX1_before_4 : decode cX1_before 4 = .ok (.ifCond .ne 10, 3) := by decide +kernel
theorem dX1_before_7 : decode cX1_before 7 = .ok (.iload_n 2, 1) := by decide +kernel
theorem dX1_before_8 : decode cX1_before 8 = .ok (.invokestatic 13, 3) := by decide +kernel
theorem dX1_before_11 : decode cX1_before 11 = .ok (.ifCond .eq 5, 3) := by decide +kernel
theorem dX1_before_14 : decode cX1_before 14 = .ok (.iconst (-1), 1) := by decide +kernel
theorem dX1_before_15 : decode cX1_before 15 = .ok (.ireturn, 1) := by decide +kernel
theorem dX1_before_16 : decode cX1_before 16 = .ok (.aload_n 0, 1) := by decide +kernel
theorem dX1_before_17 : decode cX1_before 17 = .ok (.getfield 7, 3) := by decide +kernel
theorem dX1_before_20 : decode cX1_before 20 = .ok (.bipush 10, 2) := by decide +kernel
theorem dX1_before_22 : decode cX1_before 22 = .ok (.iload_n 1, 1) := by decide +kernel
theorem dX1_before_23 : decode cX1_before 23 = .ok (.imul, 1) := by decide +kernel
theorem dX1_before_24 : decode cX1_before 24 = .ok (.iload_n 2, 1) := by decide +kernel
theorem dX1_before_25 : decode cX1_before 25 = .ok (.iadd, 1) := by decide +kernel
theorem dX1_before_26 : decode cX1_before 26 = .ok (.baload, 1) := by decide +kernel
theorem dX1_before_27 : decode cX1_before 27 = .ok (.ifCond .eq 7, 3) := by decide +kernel
theorem dX1_before_30 : decode cX1_before 30 = .ok (.iconst 1, 1) := by decide +kernel
theorem dX1_before_31 : decode cX1_before 31 = .ok (.goto 4, 3) := by decide +kernel
theorem dX1_before_34 : decode cX1_before 34 = .ok (.iconst 0, 1) := by decide +kernel
theorem dX1_before_35 : decode cX1_before 35 = .ok (.ireturn, 1) := by decide +kernel
abbrev cX1_width : ByteArray := prog_3_method_11_code
def yX1_width : MethodName := ⟨RX1, "width", "()I"⟩
theorem dX1_width_0 : decode cX1_width 0 = .ok (.aload_n 0, 1) := by decide +kernel
theorem dX1_width_1 : decode cX1_width 1 = .ok (.iconst 0, 1) := by decide +kernel
theorem dX1_width_2 : decode cX1_width 2 = .ok (.iconst 0, 1) := by decide +kernel
theorem dX1_width_3 : decode cX1_width 3 = .ok (.iconst 0, 1) := by decide +kernel
theorem dX1_width_4 : decode cX1_width 4 = .ok (.invokevirtual 33, 3) := by decide +kernel
theorem dX1_width_7 : decode cX1_width 7 = .ok (.ireturn, 1) := by decide +kernel
abbrev cX1_size : ByteArray := prog_3_method_10_code
def yX1_size : MethodName := ⟨RX1, "size", "(IIZ)I"⟩
theorem dX1_size_0 : decode cX1_size 0 = .ok (.aload_n 0, 1) := by decide +kernel
theorem dX1_size_1 : decode cX1_size 1 = .ok (.iload_n 1, 1) := by decide +kernel
theorem dX1_size_2 : decode cX1_size 2 = .ok (.iload_n 2, 1) := by decide +kernel
theorem dX1_size_3 : decode cX1_size 3 = .ok (.iload_n 3, 1) := by decide +kernel
theorem dX1_size_4 : decode cX1_size 4 = .ok (.invokevirtual 29, 3) := by decide +kernel
theorem dX1_size_7 : decode cX1_size 7 = .ok (.istore 4, 2) := by decide +kernel
theorem dX1_size_9 : decode cX1_size 9 = .ok (.iload 4, 2) := by decide +kernel
theorem dX1_size_11 : decode cX1_size 11 = .ok (.ifCond .ge 7, 3) := by decide +kernel
theorem dX1_size_14 : decode cX1_size 14 = .ok (.iconst 0, 1) := by decide +kernel
theorem dX1_size_15 : decode cX1_size 15 = .ok (.goto 8, 3) := by decide +kernel
theorem dX1_size_18 : decode cX1_size 18 = .ok (.iload 4, 2) := by decide +kernel
theorem dX1_size_20 : decode cX1_size 20 = .ok (.invokestatic 25, 3) := by decide +kernel
theorem dX1_size_23 : decode cX1_size 23 = .ok (.ireturn, 1) := by decide +kernel
abbrev cX1_greatest : ByteArray := prog_3_method_9_code
def yX1_greatest : MethodName := ⟨RX1, "greatest", "(IIZ)I"⟩
theorem dX1_greatest_0 : decode cX1_greatest 0 = .ok (.iconst (-1), 1) := by decide +kernel
theorem dX1_greatest_1 : decode cX1_greatest 1 = .ok (.istore 4, 2) := by decide +kernel
theorem dX1_greatest_3 : decode cX1_greatest 3 = .ok (.iconst 0, 1) := by decide +kernel
theorem dX1_greatest_4 : decode cX1_greatest 4 = .ok (.istore 5, 2) := by decide +kernel
theorem dX1_greatest_6 : decode cX1_greatest 6 = .ok (.iload 5, 2) := by decide +kernel
theorem dX1_greatest_8 : decode cX1_greatest 8 = .ok (.sipush 1024, 3) := by decide +kernel
theorem dX1_greatest_11 : decode cX1_greatest 11 = .ok (.if_icmp .ge 68, 3) := by decide +kernel
theorem dX1_greatest_14 : decode cX1_greatest 14 = .ok (.iload 5, 2) := by decide +kernel
theorem dX1_greatest_16 : decode cX1_greatest 16 = .ok (.iload_n 1, 1) := by decide +kernel
theorem dX1_greatest_17 : decode cX1_greatest 17 = .ok (.iand, 1) := by decide +kernel
theorem dX1_greatest_18 : decode cX1_greatest 18 = .ok (.iload_n 1, 1) := by decide +kernel
theorem dX1_greatest_19 : decode cX1_greatest 19 = .ok (.if_icmp .ne 14, 3) := by decide +kernel
theorem dX1_greatest_22 : decode cX1_greatest 22 = .ok (.iload 5, 2) := by decide +kernel
theorem dX1_greatest_24 : decode cX1_greatest 24 = .ok (.iload_n 2, 1) := by decide +kernel
theorem dX1_greatest_25 : decode cX1_greatest 25 = .ok (.iand, 1) := by decide +kernel
theorem dX1_greatest_26 : decode cX1_greatest 26 = .ok (.ifCond .ne 7, 3) := by decide +kernel
theorem dX1_greatest_29 : decode cX1_greatest 29 = .ok (.iconst 1, 1) := by decide +kernel
theorem dX1_greatest_30 : decode cX1_greatest 30 = .ok (.goto 4, 3) := by decide +kernel
theorem dX1_greatest_33 : decode cX1_greatest 33 = .ok (.iconst 0, 1) := by decide +kernel
theorem dX1_greatest_34 : decode cX1_greatest 34 = .ok (.istore 6, 2) := by decide +kernel
theorem dX1_greatest_36 : decode cX1_greatest 36 = .ok (.iload 6, 2) := by decide +kernel
theorem dX1_greatest_38 : decode cX1_greatest 38 = .ok (.ifCond .eq 35, 3) := by decide +kernel
theorem dX1_greatest_41 : decode cX1_greatest 41 = .ok (.aload_n 0, 1) := by decide +kernel
theorem dX1_greatest_42 : decode cX1_greatest 42 = .ok (.iload 5, 2) := by decide +kernel
theorem dX1_greatest_44 : decode cX1_greatest 44 = .ok (.iload_n 3, 1) := by decide +kernel
theorem dX1_greatest_45 : decode cX1_greatest 45 = .ok (.invokevirtual 21, 3) := by decide +kernel
theorem dX1_greatest_48 : decode cX1_greatest 48 = .ok (.ifCond .eq 25, 3) := by decide +kernel
theorem dX1_greatest_51 : decode cX1_greatest 51 = .ok (.iload 4, 2) := by decide +kernel
theorem dX1_greatest_53 : decode cX1_greatest 53 = .ok (.ifCond .lt 16, 3) := by decide +kernel
theorem dX1_greatest_56 : decode cX1_greatest 56 = .ok (.iload 5, 2) := by decide +kernel
theorem dX1_greatest_58 : decode cX1_greatest 58 = .ok (.invokestatic 25, 3) := by decide +kernel
theorem dX1_greatest_61 : decode cX1_greatest 61 = .ok (.iload 4, 2) := by decide +kernel
theorem dX1_greatest_63 : decode cX1_greatest 63 = .ok (.invokestatic 25, 3) := by decide +kernel
theorem dX1_greatest_66 : decode cX1_greatest 66 = .ok (.if_icmp .le 7, 3) := by decide +kernel
theorem dX1_greatest_69 : decode cX1_greatest 69 = .ok (.iload 5, 2) := by decide +kernel
theorem dX1_greatest_71 : decode cX1_greatest 71 = .ok (.istore 4, 2) := by decide +kernel
theorem dX1_greatest_73 : decode cX1_greatest 73 = .ok (.iinc 5 1, 3) := by decide +kernel
theorem dX1_greatest_76 : decode cX1_greatest 76 = .ok (.goto (-70), 3) := by decide +kernel
theorem dX1_greatest_79 : decode cX1_greatest 79 = .ok (.iload 4, 2) := by decide +kernel
theorem dX1_greatest_81 : decode cX1_greatest 81 = .ok (.ireturn, 1) := by decide +kernel
abbrev cX1_fits : ByteArray := prog_3_method_7_code
def yX1_fits : MethodName := ⟨RX1, "fits", "(IZ)Z"⟩
theorem dX1_fits_0 : decode cX1_fits 0 = .ok (.iconst 0, 1) := by decide +kernel
theorem dX1_fits_1 : decode cX1_fits 1 = .ok (.istore_n 3, 1) := by decide +kernel
theorem dX1_fits_2 : decode cX1_fits 2 = .ok (.iload_n 3, 1) := by decide +kernel
theorem dX1_fits_3 : decode cX1_fits 3 = .ok (.bipush 10, 2) := by decide +kernel
theorem dX1_fits_5 : decode cX1_fits 5 = .ok (.if_icmp .ge 96, 3) := by decide +kernel
theorem dX1_fits_8 : decode cX1_fits 8 = .ok (.iconst 0, 1) := by decide +kernel
theorem dX1_fits_9 : decode cX1_fits 9 = .ok (.istore 4, 2) := by decide +kernel
theorem dX1_fits_11 : decode cX1_fits 11 = .ok (.iload 4, 2) := by decide +kernel
theorem dX1_fits_13 : decode cX1_fits 13 = .ok (.iload_n 3, 1) := by decide +kernel
theorem dX1_fits_14 : decode cX1_fits 14 = .ok (.if_icmp .ge 81, 3) := by decide +kernel
theorem dX1_fits_17 : decode cX1_fits 17 = .ok (.iload_n 1, 1) := by decide +kernel
theorem dX1_fits_18 : decode cX1_fits 18 = .ok (.iload_n 3, 1) := by decide +kernel
theorem dX1_fits_19 : decode cX1_fits 19 = .ok (.ishr, 1) := by decide +kernel
theorem dX1_fits_20 : decode cX1_fits 20 = .ok (.iconst 1, 1) := by decide +kernel
theorem dX1_fits_21 : decode cX1_fits 21 = .ok (.iand, 1) := by decide +kernel
theorem dX1_fits_22 : decode cX1_fits 22 = .ok (.iconst 1, 1) := by decide +kernel
theorem dX1_fits_23 : decode cX1_fits 23 = .ok (.if_icmp .ne 17, 3) := by decide +kernel
theorem dX1_fits_26 : decode cX1_fits 26 = .ok (.iload_n 1, 1) := by decide +kernel
theorem dX1_fits_27 : decode cX1_fits 27 = .ok (.iload 4, 2) := by decide +kernel
theorem dX1_fits_29 : decode cX1_fits 29 = .ok (.ishr, 1) := by decide +kernel
theorem dX1_fits_30 : decode cX1_fits 30 = .ok (.iconst 1, 1) := by decide +kernel
theorem dX1_fits_31 : decode cX1_fits 31 = .ok (.iand, 1) := by decide +kernel
theorem dX1_fits_32 : decode cX1_fits 32 = .ok (.iconst 1, 1) := by decide +kernel
theorem dX1_fits_33 : decode cX1_fits 33 = .ok (.if_icmp .ne 7, 3) := by decide +kernel
theorem dX1_fits_36 : decode cX1_fits 36 = .ok (.iconst 1, 1) := by decide +kernel
theorem dX1_fits_37 : decode cX1_fits 37 = .ok (.goto 4, 3) := by decide +kernel
theorem dX1_fits_40 : decode cX1_fits 40 = .ok (.iconst 0, 1) := by decide +kernel
theorem dX1_fits_41 : decode cX1_fits 41 = .ok (.istore 5, 2) := by decide +kernel
theorem dX1_fits_43 : decode cX1_fits 43 = .ok (.iload 5, 2) := by decide +kernel
theorem dX1_fits_45 : decode cX1_fits 45 = .ok (.ifCond .eq 44, 3) := by decide +kernel
theorem dX1_fits_48 : decode cX1_fits 48 = .ok (.aload_n 0, 1) := by decide +kernel
theorem dX1_fits_49 : decode cX1_fits 49 = .ok (.getfield 7, 3) := by decide +kernel
theorem dX1_fits_52 : decode cX1_fits 52 = .ok (.bipush 10, 2) := by decide +kernel
theorem dX1_fits_54 : decode cX1_fits 54 = .ok (.iload_n 3, 1) := by decide +kernel
theorem dX1_fits_55 : decode cX1_fits 55 = .ok (.imul, 1) := by decide +kernel
theorem dX1_fits_56 : decode cX1_fits 56 = .ok (.iload 4, 2) := by decide +kernel
theorem dX1_fits_58 : decode cX1_fits 58 = .ok (.iadd, 1) := by decide +kernel
theorem dX1_fits_59 : decode cX1_fits 59 = .ok (.baload, 1) := by decide +kernel
theorem dX1_fits_60 : decode cX1_fits 60 = .ok (.ifCond .ne 18, 3) := by decide +kernel
theorem dX1_fits_63 : decode cX1_fits 63 = .ok (.aload_n 0, 1) := by decide +kernel
theorem dX1_fits_64 : decode cX1_fits 64 = .ok (.getfield 7, 3) := by decide +kernel
theorem dX1_fits_67 : decode cX1_fits 67 = .ok (.bipush 10, 2) := by decide +kernel
theorem dX1_fits_69 : decode cX1_fits 69 = .ok (.iload 4, 2) := by decide +kernel
theorem dX1_fits_71 : decode cX1_fits 71 = .ok (.imul, 1) := by decide +kernel
theorem dX1_fits_72 : decode cX1_fits 72 = .ok (.iload_n 3, 1) := by decide +kernel
theorem dX1_fits_73 : decode cX1_fits 73 = .ok (.iadd, 1) := by decide +kernel
theorem dX1_fits_74 : decode cX1_fits 74 = .ok (.baload, 1) := by decide +kernel
theorem dX1_fits_75 : decode cX1_fits 75 = .ok (.ifCond .eq 7, 3) := by decide +kernel
theorem dX1_fits_78 : decode cX1_fits 78 = .ok (.iconst 1, 1) := by decide +kernel
theorem dX1_fits_79 : decode cX1_fits 79 = .ok (.goto 4, 3) := by decide +kernel
theorem dX1_fits_82 : decode cX1_fits 82 = .ok (.iconst 0, 1) := by decide +kernel
theorem dX1_fits_83 : decode cX1_fits 83 = .ok (.iload_n 2, 1) := by decide +kernel
theorem dX1_fits_84 : decode cX1_fits 84 = .ok (.if_icmp .eq 5, 3) := by decide +kernel
theorem dX1_fits_87 : decode cX1_fits 87 = .ok (.iconst 0, 1) := by decide +kernel
theorem dX1_fits_88 : decode cX1_fits 88 = .ok (.ireturn, 1) := by decide +kernel
theorem dX1_fits_89 : decode cX1_fits 89 = .ok (.iinc 4 1, 3) := by decide +kernel
theorem dX1_fits_92 : decode cX1_fits 92 = .ok (.goto (-81), 3) := by decide +kernel
theorem dX1_fits_95 : decode cX1_fits 95 = .ok (.iinc 3 1, 3) := by decide +kernel
theorem dX1_fits_98 : decode cX1_fits 98 = .ok (.goto (-96), 3) := by decide +kernel
theorem dX1_fits_101 : decode cX1_fits 101 = .ok (.iconst 1, 1) := by decide +kernel
theorem dX1_fits_102 : decode cX1_fits 102 = .ok (.ireturn, 1) := by decide +kernel
abbrev cX1_ones : ByteArray := prog_3_method_8_code
def yX1_ones : MethodName := ⟨RX1, "ones", "(I)I"⟩
theorem dX1_ones_0 : decode cX1_ones 0 = .ok (.iconst 0, 1) := by decide +kernel
theorem dX1_ones_1 : decode cX1_ones 1 = .ok (.istore_n 1, 1) := by decide +kernel
theorem dX1_ones_2 : decode cX1_ones 2 = .ok (.iconst 0, 1) := by decide +kernel
theorem dX1_ones_3 : decode cX1_ones 3 = .ok (.istore_n 2, 1) := by decide +kernel
theorem dX1_ones_4 : decode cX1_ones 4 = .ok (.iload_n 2, 1) := by decide +kernel
theorem dX1_ones_5 : decode cX1_ones 5 = .ok (.bipush 10, 2) := by decide +kernel
theorem dX1_ones_7 : decode cX1_ones 7 = .ok (.if_icmp .ge 17, 3) := by decide +kernel
theorem dX1_ones_10 : decode cX1_ones 10 = .ok (.iload_n 1, 1) := by decide +kernel
theorem dX1_ones_11 : decode cX1_ones 11 = .ok (.iload_n 0, 1) := by decide +kernel
theorem dX1_ones_12 : decode cX1_ones 12 = .ok (.iload_n 2, 1) := by decide +kernel
theorem dX1_ones_13 : decode cX1_ones 13 = .ok (.ishr, 1) := by decide +kernel
theorem dX1_ones_14 : decode cX1_ones 14 = .ok (.iconst 1, 1) := by decide +kernel
theorem dX1_ones_15 : decode cX1_ones 15 = .ok (.iand, 1) := by decide +kernel
theorem dX1_ones_16 : decode cX1_ones 16 = .ok (.iadd, 1) := by decide +kernel
theorem dX1_ones_17 : decode cX1_ones 17 = .ok (.istore_n 1, 1) := by decide +kernel
theorem dX1_ones_18 : decode cX1_ones 18 = .ok (.iinc 2 1, 3) := by decide +kernel
theorem dX1_ones_21 : decode cX1_ones 21 = .ok (.goto (-17), 3) := by decide +kernel
theorem dX1_ones_24 : decode cX1_ones 24 = .ok (.iload_n 1, 1) := by decide +kernel
theorem dX1_ones_25 : decode cX1_ones 25 = .ok (.ireturn, 1) := by decide +kernel
abbrev cX1_widthWith : ByteArray := prog_3_method_12_code
def yX1_widthWith : MethodName := ⟨RX1, "widthWith", "(I)I"⟩
theorem dX1_widthWith_0 : decode cX1_widthWith 0 = .ok (.iload_n 1, 1) := by decide +kernel
theorem dX1_widthWith_1 : decode cX1_widthWith 1 = .ok (.invokestatic 13, 3) := by decide +kernel
theorem dX1_widthWith_4 : decode cX1_widthWith 4 = .ok (.ifCond .eq 7, 3) := by decide +kernel
theorem dX1_widthWith_7 : decode cX1_widthWith 7 = .ok (.iconst (-1), 1) := by decide +kernel
theorem dX1_widthWith_8 : decode cX1_widthWith 8 = .ok (.goto 12, 3) := by decide +kernel
theorem dX1_widthWith_11 : decode cX1_widthWith 11 = .ok (.aload_n 0, 1) := by decide +kernel
theorem dX1_widthWith_12 : decode cX1_widthWith 12 = .ok (.iconst 1, 1) := by decide +kernel
theorem dX1_widthWith_13 : decode cX1_widthWith 13 = .ok (.iload_n 1, 1) := by decide +kernel
theorem dX1_widthWith_14 : decode cX1_widthWith 14 = .ok (.ishl, 1) := by decide +kernel
theorem dX1_widthWith_15 : decode cX1_widthWith 15 = .ok (.iconst 0, 1) := by decide +kernel
theorem dX1_widthWith_16 : decode cX1_widthWith 16 = .ok (.iconst 0, 1) := by decide +kernel
theorem dX1_widthWith_17 : decode cX1_widthWith 17 = .ok (.invokevirtual 33, 3) := by decide +kernel
theorem dX1_widthWith_20 : decode cX1_widthWith 20 = .ok (.ireturn, 1) := by decide +kernel
abbrev cX1_widthWithout : ByteArray := prog_3_method_13_code
def yX1_widthWithout : MethodName := ⟨RX1, "widthWithout", "(I)I"⟩
theorem dX1_widthWithout_0 : decode cX1_widthWithout 0 = .ok (.iload_n 1, 1) := by decide +kernel
theorem dX1_widthWithout_1 : decode cX1_widthWithout 1 = .ok (.invokestatic 13, 3) := by decide +kernel
theorem dX1_widthWithout_4 : decode cX1_widthWithout 4 = .ok (.ifCond .eq 7, 3) := by decide +kernel
theorem dX1_widthWithout_7 : decode cX1_widthWithout 7 = .ok (.iconst (-1), 1) := by decide +kernel
theorem dX1_widthWithout_8 : decode cX1_widthWithout 8 = .ok (.goto 12, 3) := by decide +kernel
theorem dX1_widthWithout_11 : decode cX1_widthWithout 11 = .ok (.aload_n 0, 1) := by decide +kernel
theorem dX1_widthWithout_12 : decode cX1_widthWithout 12 = .ok (.iconst 0, 1) := by decide +kernel
theorem dX1_widthWithout_13 : decode cX1_widthWithout 13 = .ok (.iconst 1, 1) := by decide +kernel
theorem dX1_widthWithout_14 : decode cX1_widthWithout 14 = .ok (.iload_n 1, 1) := by decide +kernel
theorem dX1_widthWithout_15 : decode cX1_widthWithout 15 = .ok (.ishl, 1) := by decide +kernel
theorem dX1_widthWithout_16 : decode cX1_widthWithout 16 = .ok (.iconst 0, 1) := by decide +kernel
theorem dX1_widthWithout_17 : decode cX1_widthWithout 17 = .ok (.invokevirtual 33, 3) := by decide +kernel
theorem dX1_widthWithout_20 : decode cX1_widthWithout 20 = .ok (.ireturn, 1) := by decide +kernel
abbrev cX1_chosen : ByteArray := prog_3_method_14_code
def yX1_chosen : MethodName := ⟨RX1, "chosen", "(I)I"⟩
theorem dX1_chosen_0 : decode cX1_chosen 0 = .ok (.iload_n 1, 1) := by decide +kernel
theorem dX1_chosen_1 : decode cX1_chosen 1 = .ok (.invokestatic 13, 3) := by decide +kernel
theorem dX1_chosen_4 : decode cX1_chosen 4 = .ok (.ifCond .eq 5, 3) := by decide +kernel
theorem dX1_chosen_7 : decode cX1_chosen 7 = .ok (.iconst (-1), 1) := by decide +kernel
theorem dX1_chosen_8 : decode cX1_chosen 8 = .ok (.ireturn, 1) := by decide +kernel
theorem dX1_chosen_9 : decode cX1_chosen 9 = .ok (.aload_n 0, 1) := by decide +kernel
theorem dX1_chosen_10 : decode cX1_chosen 10 = .ok (.iconst 0, 1) := by decide +kernel
theorem dX1_chosen_11 : decode cX1_chosen 11 = .ok (.iconst 0, 1) := by decide +kernel
theorem dX1_chosen_12 : decode cX1_chosen 12 = .ok (.iconst 0, 1) := by decide +kernel
theorem dX1_chosen_13 : decode cX1_chosen 13 = .ok (.invokevirtual 29, 3) := by decide +kernel
theorem dX1_chosen_16 : decode cX1_chosen 16 = .ok (.istore_n 2, 1) := by decide +kernel
theorem dX1_chosen_17 : decode cX1_chosen 17 = .ok (.iload_n 2, 1) := by decide +kernel
theorem dX1_chosen_18 : decode cX1_chosen 18 = .ok (.iload_n 1, 1) := by decide +kernel
theorem dX1_chosen_19 : decode cX1_chosen 19 = .ok (.ishr, 1) := by decide +kernel
theorem dX1_chosen_20 : decode cX1_chosen 20 = .ok (.iconst 1, 1) := by decide +kernel
theorem dX1_chosen_21 : decode cX1_chosen 21 = .ok (.iand, 1) := by decide +kernel
theorem dX1_chosen_22 : decode cX1_chosen 22 = .ok (.ireturn, 1) := by decide +kernel
abbrev cX1_height : ByteArray := prog_3_method_15_code
def yX1_height : MethodName := ⟨RX1, "height", "()I"⟩
theorem dX1_height_0 : decode cX1_height 0 = .ok (.aload_n 0, 1) := by decide +kernel
theorem dX1_height_1 : decode cX1_height 1 = .ok (.iconst 0, 1) := by decide +kernel
theorem dX1_height_2 : decode cX1_height 2 = .ok (.iconst 0, 1) := by decide +kernel
theorem dX1_height_3 : decode cX1_height 3 = .ok (.iconst 1, 1) := by decide +kernel
theorem dX1_height_4 : decode cX1_height 4 = .ok (.invokevirtual 33, 3) := by decide +kernel
theorem dX1_height_7 : decode cX1_height 7 = .ok (.ireturn, 1) := by decide +kernel
abbrev cX1_heightWith : ByteArray := prog_3_method_16_code
def yX1_heightWith : MethodName := ⟨RX1, "heightWith", "(I)I"⟩
theorem dX1_heightWith_0 : decode cX1_heightWith 0 = .ok (.iload_n 1, 1) := by decide +kernel
theorem dX1_heightWith_1 : decode cX1_heightWith 1 = .ok (.invokestatic 13, 3) := by decide +kernel
theorem dX1_heightWith_4 : decode cX1_heightWith 4 = .ok (.ifCond .eq 7, 3) := by decide +kernel
theorem dX1_heightWith_7 : decode cX1_heightWith 7 = .ok (.iconst (-1), 1) := by decide +kernel
theorem dX1_heightWith_8 : decode cX1_heightWith 8 = .ok (.goto 12, 3) := by decide +kernel
theorem dX1_heightWith_11 : decode cX1_heightWith 11 = .ok (.aload_n 0, 1) := by decide +kernel
theorem dX1_heightWith_12 : decode cX1_heightWith 12 = .ok (.iconst 1, 1) := by decide +kernel
theorem dX1_heightWith_13 : decode cX1_heightWith 13 = .ok (.iload_n 1, 1) := by decide +kernel
theorem dX1_heightWith_14 : decode cX1_heightWith 14 = .ok (.ishl, 1) := by decide +kernel
theorem dX1_heightWith_15 : decode cX1_heightWith 15 = .ok (.iconst 0, 1) := by decide +kernel
theorem dX1_heightWith_16 : decode cX1_heightWith 16 = .ok (.iconst 1, 1) := by decide +kernel
theorem dX1_heightWith_17 : decode cX1_heightWith 17 = .ok (.invokevirtual 33, 3) := by decide +kernel
theorem dX1_heightWith_20 : decode cX1_heightWith 20 = .ok (.ireturn, 1) := by decide +kernel
abbrev cX1_widthBeside : ByteArray := prog_3_method_17_code
def yX1_widthBeside : MethodName := ⟨RX1, "widthBeside", "(IZ)I"⟩
theorem dX1_widthBeside_0 : decode cX1_widthBeside 0 = .ok (.iload_n 1, 1) := by decide +kernel
theorem dX1_widthBeside_1 : decode cX1_widthBeside 1 = .ok (.invokestatic 13, 3) := by decide +kernel
theorem dX1_widthBeside_4 : decode cX1_widthBeside 4 = .ok (.ifCond .eq 5, 3) := by decide +kernel
theorem dX1_widthBeside_7 : decode cX1_widthBeside 7 = .ok (.iconst (-1), 1) := by decide +kernel
theorem dX1_widthBeside_8 : decode cX1_widthBeside 8 = .ok (.ireturn, 1) := by decide +kernel
theorem dX1_widthBeside_9 : decode cX1_widthBeside 9 = .ok (.iconst 0, 1) := by decide +kernel
theorem dX1_widthBeside_10 : decode cX1_widthBeside 10 = .ok (.istore_n 3, 1) := by decide +kernel
theorem dX1_widthBeside_11 : decode cX1_widthBeside 11 = .ok (.iconst 0, 1) := by decide +kernel
theorem dX1_widthBeside_12 : decode cX1_widthBeside 12 = .ok (.istore 4, 2) := by decide +kernel
theorem dX1_widthBeside_14 : decode cX1_widthBeside 14 = .ok (.iload 4, 2) := by decide +kernel
theorem dX1_widthBeside_16 : decode cX1_widthBeside 16 = .ok (.bipush 10, 2) := by decide +kernel
theorem dX1_widthBeside_18 : decode cX1_widthBeside 18 = .ok (.if_icmp .ge 54, 3) := by decide +kernel
theorem dX1_widthBeside_21 : decode cX1_widthBeside 21 = .ok (.iload_n 2, 1) := by decide +kernel
theorem dX1_widthBeside_22 : decode cX1_widthBeside 22 = .ok (.ifCond .eq 18, 3) := by decide +kernel
theorem dX1_widthBeside_25 : decode cX1_widthBeside 25 = .ok (.aload_n 0, 1) := by decide +kernel
theorem dX1_widthBeside_26 : decode cX1_widthBeside 26 = .ok (.getfield 7, 3) := by decide +kernel
theorem dX1_widthBeside_29 : decode cX1_widthBeside 29 = .ok (.bipush 10, 2) := by decide +kernel
theorem dX1_widthBeside_31 : decode cX1_widthBeside 31 = .ok (.iload_n 1, 1) := by decide +kernel
theorem dX1_widthBeside_32 : decode cX1_widthBeside 32 = .ok (.imul, 1) := by decide +kernel
theorem dX1_widthBeside_33 : decode cX1_widthBeside 33 = .ok (.iload 4, 2) := by decide +kernel
theorem dX1_widthBeside_35 : decode cX1_widthBeside 35 = .ok (.iadd, 1) := by decide +kernel
theorem dX1_widthBeside_36 : decode cX1_widthBeside 36 = .ok (.baload, 1) := by decide +kernel
theorem dX1_widthBeside_37 : decode cX1_widthBeside 37 = .ok (.goto 15, 3) := by decide +kernel
theorem dX1_widthBeside_40 : decode cX1_widthBeside 40 = .ok (.aload_n 0, 1) := by decide +kernel
theorem dX1_widthBeside_41 : decode cX1_widthBeside 41 = .ok (.getfield 7, 3) := by decide +kernel
theorem dX1_widthBeside_44 : decode cX1_widthBeside 44 = .ok (.bipush 10, 2) := by decide +kernel
theorem dX1_widthBeside_46 : decode cX1_widthBeside 46 = .ok (.iload 4, 2) := by decide +kernel
theorem dX1_widthBeside_48 : decode cX1_widthBeside 48 = .ok (.imul, 1) := by decide +kernel
theorem dX1_widthBeside_49 : decode cX1_widthBeside 49 = .ok (.iload_n 1, 1) := by decide +kernel
theorem dX1_widthBeside_50 : decode cX1_widthBeside 50 = .ok (.iadd, 1) := by decide +kernel
theorem dX1_widthBeside_51 : decode cX1_widthBeside 51 = .ok (.baload, 1) := by decide +kernel
theorem dX1_widthBeside_52 : decode cX1_widthBeside 52 = .ok (.istore 5, 2) := by decide +kernel
theorem dX1_widthBeside_54 : decode cX1_widthBeside 54 = .ok (.iload 5, 2) := by decide +kernel
theorem dX1_widthBeside_56 : decode cX1_widthBeside 56 = .ok (.ifCond .ne 10, 3) := by decide +kernel
theorem dX1_widthBeside_59 : decode cX1_widthBeside 59 = .ok (.iload_n 3, 1) := by decide +kernel
theorem dX1_widthBeside_60 : decode cX1_widthBeside 60 = .ok (.iconst 1, 1) := by decide +kernel
theorem dX1_widthBeside_61 : decode cX1_widthBeside 61 = .ok (.iload 4, 2) := by decide +kernel
theorem dX1_widthBeside_63 : decode cX1_widthBeside 63 = .ok (.ishl, 1) := by decide +kernel
theorem dX1_widthBeside_64 : decode cX1_widthBeside 64 = .ok (.ior, 1) := by decide +kernel
theorem dX1_widthBeside_65 : decode cX1_widthBeside 65 = .ok (.istore_n 3, 1) := by decide +kernel
theorem dX1_widthBeside_66 : decode cX1_widthBeside 66 = .ok (.iinc 4 1, 3) := by decide +kernel
theorem dX1_widthBeside_69 : decode cX1_widthBeside 69 = .ok (.goto (-55), 3) := by decide +kernel
theorem dX1_widthBeside_72 : decode cX1_widthBeside 72 = .ok (.aload_n 0, 1) := by decide +kernel
theorem dX1_widthBeside_73 : decode cX1_widthBeside 73 = .ok (.iconst 0, 1) := by decide +kernel
theorem dX1_widthBeside_74 : decode cX1_widthBeside 74 = .ok (.iload_n 3, 1) := by decide +kernel
theorem dX1_widthBeside_75 : decode cX1_widthBeside 75 = .ok (.iconst 0, 1) := by decide +kernel
theorem dX1_widthBeside_76 : decode cX1_widthBeside 76 = .ok (.invokevirtual 33, 3) := by decide +kernel
theorem dX1_widthBeside_79 : decode cX1_widthBeside 79 = .ok (.ireturn, 1) := by decide +kernel
theorem q14 : (Jvm.Cond.initialized "PosetWidthModel") ∈ lw_all := lw_g (lw_at lw_m0 2 rfl) rfl
theorem q126 : (Jvm.Cond.instantiable "PosetWidthModel" (1 : Nat)) ∈ lw_all := lw_g (lw_at lw_m0 114 rfl) rfl
theorem q128 : (Jvm.Cond.instanceMethod ({ cls := "PosetWidthModel", name := "<init>", desc := "()V" } : Jvm.MethodName)) ∈ lw_all := lw_g (lw_at lw_m0 116 rfl) rfl
theorem q129 : (Jvm.Cond.code ({ cls := "PosetWidthModel", name := "<init>", desc := "()V" } : Jvm.MethodName) prog_3_method_1_code (1 : Nat) (Option.none : Option Jvm.ClassFile.FieldType)) ∈ lw_all := lw_g (lw_at lw_m0 117 rfl) rfl
theorem q130 : (Jvm.Cond.methodLink "PosetWidthModel" (1 : Nat) ({ cls := "java/lang/Object", name := "<init>", desc := "()V" } : Jvm.MethodName)) ∈ lw_all := lw_g (lw_at lw_m0 118 rfl) rfl
theorem q131 : (Jvm.Cond.fieldLink "PosetWidthModel" (7 : Nat) "PosetWidthModel" "first" "[Z") ∈ lw_all := lw_g (lw_at lw_m0 119 rfl) rfl
theorem q132 : (Jvm.Cond.laysFinal "PosetWidthModel" "PosetWidthModel" "first" "[Z") ∈ lw_all := lw_g (lw_at lw_m0 120 rfl) rfl
theorem q133 : (Jvm.Cond.soleField "PosetWidthModel" "first") ∈ lw_all := lw_g (lw_at lw_m0 121 rfl) rfl
theorem q134 : (Jvm.Cond.superclass "PosetWidthModel" "java/lang/Object") ∈ lw_all := lw_g (lw_at lw_m0 122 rfl) rfl
theorem q137 : (Jvm.Cond.instanceMethod ({ cls := "PosetWidthModel", name := "put", desc := "(II)I" } : Jvm.MethodName)) ∈ lw_all := lw_g (lw_at lw_m0 125 rfl) rfl
theorem q138 : (Jvm.Cond.selects "PosetWidthModel" ({ cls := "PosetWidthModel", name := "put", desc := "(II)I" } : Jvm.MethodName) ({ cls := "PosetWidthModel", name := "put", desc := "(II)I" } : Jvm.MethodName)) ∈ lw_all := lw_g (lw_at lw_m0 126 rfl) rfl
theorem q139 : (Jvm.Cond.code ({ cls := "PosetWidthModel", name := "put", desc := "(II)I" } : Jvm.MethodName) prog_3_method_4_code (7 : Nat) (Option.some Jvm.ClassFile.FieldType.int)) ∈ lw_all := lw_g (lw_at lw_m0 127 rfl) rfl
theorem q140 : (Jvm.Cond.methodLink "PosetWidthModel" (13 : Nat) ({ cls := "PosetWidthModel", name := "bad", desc := "(I)Z" } : Jvm.MethodName)) ∈ lw_all := lw_g (lw_at lw_m0 128 rfl) rfl
theorem q141 : (Jvm.Cond.static ({ cls := "PosetWidthModel", name := "bad", desc := "(I)Z" } : Jvm.MethodName)) ∈ lw_all := lw_g (lw_at lw_m0 129 rfl) rfl
theorem q142 : (Jvm.Cond.code ({ cls := "PosetWidthModel", name := "bad", desc := "(I)Z" } : Jvm.MethodName) prog_3_method_2_code (1 : Nat) (Option.some Jvm.ClassFile.FieldType.boolean)) ∈ lw_all := lw_g (lw_at lw_m0 130 rfl) rfl
theorem q143 : (Jvm.Cond.methodLink "PosetWidthModel" (17 : Nat) ({ cls := "PosetWidthModel", name := "pairs", desc := "()I" } : Jvm.MethodName)) ∈ lw_all := lw_g (lw_at lw_m0 131 rfl) rfl
theorem q144 : (Jvm.Cond.privateMethod ({ cls := "PosetWidthModel", name := "pairs", desc := "()I" } : Jvm.MethodName)) ∈ lw_tbl := lw_at lw_m0 132 rfl
theorem q145 : (Jvm.Cond.instanceMethod ({ cls := "PosetWidthModel", name := "pairs", desc := "()I" } : Jvm.MethodName)) ∈ lw_all := lw_g (lw_at lw_m0 133 rfl) rfl
theorem q146 : (Jvm.Cond.code ({ cls := "PosetWidthModel", name := "pairs", desc := "()I" } : Jvm.MethodName) prog_3_method_3_code (3 : Nat) (Option.some Jvm.ClassFile.FieldType.int)) ∈ lw_all := lw_g (lw_at lw_m0 134 rfl) rfl
theorem q148 : (Jvm.Cond.instanceMethod ({ cls := "PosetWidthModel", name := "release", desc := "(I)I" } : Jvm.MethodName)) ∈ lw_all := lw_g (lw_at lw_m0 136 rfl) rfl
theorem q149 : (Jvm.Cond.selects "PosetWidthModel" ({ cls := "PosetWidthModel", name := "release", desc := "(I)I" } : Jvm.MethodName) ({ cls := "PosetWidthModel", name := "release", desc := "(I)I" } : Jvm.MethodName)) ∈ lw_all := lw_g (lw_at lw_m0 137 rfl) rfl
theorem q150 : (Jvm.Cond.code ({ cls := "PosetWidthModel", name := "release", desc := "(I)I" } : Jvm.MethodName) prog_3_method_5_code (3 : Nat) (Option.some Jvm.ClassFile.FieldType.int)) ∈ lw_all := lw_g (lw_at lw_m0 138 rfl) rfl
theorem q152 : (Jvm.Cond.instanceMethod ({ cls := "PosetWidthModel", name := "before", desc := "(II)I" } : Jvm.MethodName)) ∈ lw_all := lw_g (lw_at lw_m0 140 rfl) rfl
theorem q153 : (Jvm.Cond.selects "PosetWidthModel" ({ cls := "PosetWidthModel", name := "before", desc := "(II)I" } : Jvm.MethodName) ({ cls := "PosetWidthModel", name := "before", desc := "(II)I" } : Jvm.MethodName)) ∈ lw_all := lw_g (lw_at lw_m0 141 rfl) rfl
theorem q154 : (Jvm.Cond.code ({ cls := "PosetWidthModel", name := "before", desc := "(II)I" } : Jvm.MethodName) prog_3_method_6_code (3 : Nat) (Option.some Jvm.ClassFile.FieldType.int)) ∈ lw_all := lw_g (lw_at lw_m0 142 rfl) rfl
theorem q156 : (Jvm.Cond.instanceMethod ({ cls := "PosetWidthModel", name := "width", desc := "()I" } : Jvm.MethodName)) ∈ lw_all := lw_g (lw_at lw_m0 144 rfl) rfl
theorem q157 : (Jvm.Cond.selects "PosetWidthModel" ({ cls := "PosetWidthModel", name := "width", desc := "()I" } : Jvm.MethodName) ({ cls := "PosetWidthModel", name := "width", desc := "()I" } : Jvm.MethodName)) ∈ lw_all := lw_g (lw_at lw_m0 145 rfl) rfl
theorem q158 : (Jvm.Cond.code ({ cls := "PosetWidthModel", name := "width", desc := "()I" } : Jvm.MethodName) prog_3_method_11_code (1 : Nat) (Option.some Jvm.ClassFile.FieldType.int)) ∈ lw_all := lw_g (lw_at lw_m0 146 rfl) rfl
theorem q159 : (Jvm.Cond.methodLink "PosetWidthModel" (33 : Nat) ({ cls := "PosetWidthModel", name := "size", desc := "(IIZ)I" } : Jvm.MethodName)) ∈ lw_all := lw_g (lw_at lw_m0 147 rfl) rfl
theorem q160 : (Jvm.Cond.privateMethod ({ cls := "PosetWidthModel", name := "size", desc := "(IIZ)I" } : Jvm.MethodName)) ∈ lw_tbl := lw_at lw_m0 148 rfl
theorem q161 : (Jvm.Cond.instanceMethod ({ cls := "PosetWidthModel", name := "size", desc := "(IIZ)I" } : Jvm.MethodName)) ∈ lw_all := lw_g (lw_at lw_m0 149 rfl) rfl
theorem q162 : (Jvm.Cond.code ({ cls := "PosetWidthModel", name := "size", desc := "(IIZ)I" } : Jvm.MethodName) prog_3_method_10_code (5 : Nat) (Option.some Jvm.ClassFile.FieldType.int)) ∈ lw_all := lw_g (lw_at lw_m0 150 rfl) rfl
theorem q163 : (Jvm.Cond.methodLink "PosetWidthModel" (29 : Nat) ({ cls := "PosetWidthModel", name := "greatest", desc := "(IIZ)I" } : Jvm.MethodName)) ∈ lw_all := lw_g (lw_at lw_m0 151 rfl) rfl
theorem q164 : (Jvm.Cond.privateMethod ({ cls := "PosetWidthModel", name := "greatest", desc := "(IIZ)I" } : Jvm.MethodName)) ∈ lw_tbl := lw_at lw_m0 152 rfl
theorem q165 : (Jvm.Cond.instanceMethod ({ cls := "PosetWidthModel", name := "greatest", desc := "(IIZ)I" } : Jvm.MethodName)) ∈ lw_all := lw_g (lw_at lw_m0 153 rfl) rfl
theorem q166 : (Jvm.Cond.code ({ cls := "PosetWidthModel", name := "greatest", desc := "(IIZ)I" } : Jvm.MethodName) prog_3_method_9_code (7 : Nat) (Option.some Jvm.ClassFile.FieldType.int)) ∈ lw_all := lw_g (lw_at lw_m0 154 rfl) rfl
theorem q167 : (Jvm.Cond.methodLink "PosetWidthModel" (21 : Nat) ({ cls := "PosetWidthModel", name := "fits", desc := "(IZ)Z" } : Jvm.MethodName)) ∈ lw_all := lw_g (lw_at lw_m0 155 rfl) rfl
theorem q168 : (Jvm.Cond.privateMethod ({ cls := "PosetWidthModel", name := "fits", desc := "(IZ)Z" } : Jvm.MethodName)) ∈ lw_tbl := lw_at lw_m0 156 rfl
theorem q169 : (Jvm.Cond.instanceMethod ({ cls := "PosetWidthModel", name := "fits", desc := "(IZ)Z" } : Jvm.MethodName)) ∈ lw_all := lw_g (lw_at lw_m0 157 rfl) rfl
theorem q170 : (Jvm.Cond.code ({ cls := "PosetWidthModel", name := "fits", desc := "(IZ)Z" } : Jvm.MethodName) prog_3_method_7_code (6 : Nat) (Option.some Jvm.ClassFile.FieldType.boolean)) ∈ lw_all := lw_g (lw_at lw_m0 158 rfl) rfl
theorem q171 : (Jvm.Cond.methodLink "PosetWidthModel" (25 : Nat) ({ cls := "PosetWidthModel", name := "ones", desc := "(I)I" } : Jvm.MethodName)) ∈ lw_all := lw_g (lw_at lw_m0 159 rfl) rfl
theorem q172 : (Jvm.Cond.static ({ cls := "PosetWidthModel", name := "ones", desc := "(I)I" } : Jvm.MethodName)) ∈ lw_all := lw_g (lw_at lw_m0 160 rfl) rfl
theorem q173 : (Jvm.Cond.code ({ cls := "PosetWidthModel", name := "ones", desc := "(I)I" } : Jvm.MethodName) prog_3_method_8_code (3 : Nat) (Option.some Jvm.ClassFile.FieldType.int)) ∈ lw_all := lw_g (lw_at lw_m0 161 rfl) rfl
theorem q175 : (Jvm.Cond.instanceMethod ({ cls := "PosetWidthModel", name := "widthWith", desc := "(I)I" } : Jvm.MethodName)) ∈ lw_all := lw_g (lw_at lw_m0 163 rfl) rfl
theorem q176 : (Jvm.Cond.selects "PosetWidthModel" ({ cls := "PosetWidthModel", name := "widthWith", desc := "(I)I" } : Jvm.MethodName) ({ cls := "PosetWidthModel", name := "widthWith", desc := "(I)I" } : Jvm.MethodName)) ∈ lw_all := lw_g (lw_at lw_m0 164 rfl) rfl
theorem q177 : (Jvm.Cond.code ({ cls := "PosetWidthModel", name := "widthWith", desc := "(I)I" } : Jvm.MethodName) prog_3_method_12_code (2 : Nat) (Option.some Jvm.ClassFile.FieldType.int)) ∈ lw_all := lw_g (lw_at lw_m0 165 rfl) rfl
theorem q179 : (Jvm.Cond.instanceMethod ({ cls := "PosetWidthModel", name := "widthWithout", desc := "(I)I" } : Jvm.MethodName)) ∈ lw_all := lw_g (lw_at lw_m0 167 rfl) rfl
theorem q180 : (Jvm.Cond.selects "PosetWidthModel" ({ cls := "PosetWidthModel", name := "widthWithout", desc := "(I)I" } : Jvm.MethodName) ({ cls := "PosetWidthModel", name := "widthWithout", desc := "(I)I" } : Jvm.MethodName)) ∈ lw_all := lw_g (lw_at lw_m0 168 rfl) rfl
theorem q181 : (Jvm.Cond.code ({ cls := "PosetWidthModel", name := "widthWithout", desc := "(I)I" } : Jvm.MethodName) prog_3_method_13_code (2 : Nat) (Option.some Jvm.ClassFile.FieldType.int)) ∈ lw_all := lw_g (lw_at lw_m0 169 rfl) rfl
theorem q183 : (Jvm.Cond.instanceMethod ({ cls := "PosetWidthModel", name := "chosen", desc := "(I)I" } : Jvm.MethodName)) ∈ lw_all := lw_g (lw_at lw_m0 171 rfl) rfl
theorem q184 : (Jvm.Cond.selects "PosetWidthModel" ({ cls := "PosetWidthModel", name := "chosen", desc := "(I)I" } : Jvm.MethodName) ({ cls := "PosetWidthModel", name := "chosen", desc := "(I)I" } : Jvm.MethodName)) ∈ lw_all := lw_g (lw_at lw_m0 172 rfl) rfl
theorem q185 : (Jvm.Cond.code ({ cls := "PosetWidthModel", name := "chosen", desc := "(I)I" } : Jvm.MethodName) prog_3_method_14_code (3 : Nat) (Option.some Jvm.ClassFile.FieldType.int)) ∈ lw_all := lw_g (lw_at lw_m0 173 rfl) rfl
theorem q187 : (Jvm.Cond.instanceMethod ({ cls := "PosetWidthModel", name := "height", desc := "()I" } : Jvm.MethodName)) ∈ lw_all := lw_g (lw_at lw_m0 175 rfl) rfl
theorem q188 : (Jvm.Cond.selects "PosetWidthModel" ({ cls := "PosetWidthModel", name := "height", desc := "()I" } : Jvm.MethodName) ({ cls := "PosetWidthModel", name := "height", desc := "()I" } : Jvm.MethodName)) ∈ lw_all := lw_g (lw_at lw_m0 176 rfl) rfl
theorem q189 : (Jvm.Cond.code ({ cls := "PosetWidthModel", name := "height", desc := "()I" } : Jvm.MethodName) prog_3_method_15_code (1 : Nat) (Option.some Jvm.ClassFile.FieldType.int)) ∈ lw_all := lw_g (lw_at lw_m0 177 rfl) rfl
theorem q191 : (Jvm.Cond.instanceMethod ({ cls := "PosetWidthModel", name := "heightWith", desc := "(I)I" } : Jvm.MethodName)) ∈ lw_all := lw_g (lw_at lw_m0 179 rfl) rfl
theorem q192 : (Jvm.Cond.selects "PosetWidthModel" ({ cls := "PosetWidthModel", name := "heightWith", desc := "(I)I" } : Jvm.MethodName) ({ cls := "PosetWidthModel", name := "heightWith", desc := "(I)I" } : Jvm.MethodName)) ∈ lw_all := lw_g (lw_at lw_m0 180 rfl) rfl
theorem q193 : (Jvm.Cond.code ({ cls := "PosetWidthModel", name := "heightWith", desc := "(I)I" } : Jvm.MethodName) prog_3_method_16_code (2 : Nat) (Option.some Jvm.ClassFile.FieldType.int)) ∈ lw_all := lw_g (lw_at lw_m0 181 rfl) rfl
theorem q195 : (Jvm.Cond.instanceMethod ({ cls := "PosetWidthModel", name := "widthBeside", desc := "(IZ)I" } : Jvm.MethodName)) ∈ lw_all := lw_g (lw_at lw_m0 183 rfl) rfl
theorem q196 : (Jvm.Cond.selects "PosetWidthModel" ({ cls := "PosetWidthModel", name := "widthBeside", desc := "(IZ)I" } : Jvm.MethodName) ({ cls := "PosetWidthModel", name := "widthBeside", desc := "(IZ)I" } : Jvm.MethodName)) ∈ lw_all := lw_g (lw_at lw_m0 184 rfl) rfl
theorem q197 : (Jvm.Cond.code ({ cls := "PosetWidthModel", name := "widthBeside", desc := "(IZ)I" } : Jvm.MethodName) prog_3_method_17_code (6 : Nat) (Option.some Jvm.ClassFile.FieldType.int)) ∈ lw_all := lw_g (lw_at lw_m0 185 rfl) rfl
theorem in_X1 : ∀ w ∈ wsX10, w ∈ lw_all := lw_in wsX10 [132] (by decide +kernel) (by decide +kernel)
theorem q45 : (Jvm.Cond.arrayClass Jvm.ClassFile.FieldType.int) ∈ lw_all := lw_g (lw_at lw_m0 33 rfl) rfl
set_option maxRecDepth 100000
theorem q135 : (Jvm.Cond.arrayClass Jvm.ClassFile.FieldType.boolean) ∈ lw_all := lw_g (lw_at lw_m0 123 rfl) rfl
end
section
/-! the law's own entry -/
set_option maxRecDepth 100000
abbrev cL_law : ByteArray := code
theorem dL_law_0 : decode cL_law 0 = .ok (.new 7, 3) := by decide +kernel
theorem dL_law_3 : decode cL_law 3 = .ok (.dup, 1) := by decide +kernel
theorem dL_law_4 : decode cL_law 4 = .ok (.invokespecial 9, 3) := by decide +kernel
theorem dL_law_7 : decode cL_law 7 = .ok (.astore_n 1, 1) := by decide +kernel
theorem dL_law_8 : decode cL_law 8 = .ok (.new 10, 3) := by decide +kernel
theorem dL_law_11 : decode cL_law 11 = .ok (.dup, 1) := by decide +kernel
theorem dL_law_12 : decode cL_law 12 = .ok (.invokespecial 12, 3) := by decide +kernel
theorem dL_law_15 : decode cL_law 15 = .ok (.astore_n 2, 1) := by decide +kernel
theorem dL_law_16 : decode cL_law 16 = .ok (.iconst 0, 1) := by decide +kernel
theorem dL_law_17 : decode cL_law 17 = .ok (.istore_n 3, 1) := by decide +kernel
theorem dL_law_18 : decode cL_law 18 = .ok (.iload_n 3, 1) := by decide +kernel
theorem dL_law_19 : decode cL_law 19 = .ok (.aload_n 0, 1) := by decide +kernel
theorem dL_law_20 : decode cL_law 20 = .ok (.arraylength, 1) := by decide +kernel
theorem dL_law_21 : decode cL_law 21 = .ok (.iconst 3, 1) := by decide +kernel
theorem dL_law_22 : decode cL_law 22 = .ok (.isub, 1) := by decide +kernel
theorem dL_law_23 : decode cL_law 23 = .ok (.if_icmp .gt 327, 3) := by decide +kernel
theorem dL_law_26 : decode cL_law 26 = .ok (.aload_n 0, 1) := by decide +kernel
theorem dL_law_27 : decode cL_law 27 = .ok (.iload_n 3, 1) := by decide +kernel
theorem dL_law_28 : decode cL_law 28 = .ok (.iaload, 1) := by decide +kernel
theorem dL_law_29 : decode cL_law 29 = .ok (.bipush 15, 2) := by decide +kernel
theorem dL_law_31 : decode cL_law 31 = .ok (.iand, 1) := by decide +kernel
theorem dL_law_32 : decode cL_law 32 = .ok (.tableswitch 312 0 9 #[56, 89, 112, 145, 158, 181, 204, 227, 240, 263], 56) := by decide +kernel
theorem dL_law_88 : decode cL_law 88 = .ok (.aload_n 1, 1) := by decide +kernel
theorem dL_law_89 : decode cL_law 89 = .ok (.aload_n 0, 1) := by decide +kernel
theorem dL_law_90 : decode cL_law 90 = .ok (.iload_n 3, 1) := by decide +kernel
theorem dL_law_91 : decode cL_law 91 = .ok (.iconst 1, 1) := by decide +kernel
theorem dL_law_92 : decode cL_law 92 = .ok (.iadd, 1) := by decide +kernel
theorem dL_law_93 : decode cL_law 93 = .ok (.iaload, 1) := by decide +kernel
theorem dL_law_94 : decode cL_law 94 = .ok (.aload_n 0, 1) := by decide +kernel
theorem dL_law_95 : decode cL_law 95 = .ok (.iload_n 3, 1) := by decide +kernel
theorem dL_law_96 : decode cL_law 96 = .ok (.iconst 2, 1) := by decide +kernel
theorem dL_law_97 : decode cL_law 97 = .ok (.iadd, 1) := by decide +kernel
theorem dL_law_98 : decode cL_law 98 = .ok (.iaload, 1) := by decide +kernel
theorem dL_law_99 : decode cL_law 99 = .ok (.invokevirtual 13, 3) := by decide +kernel
theorem dL_law_102 : decode cL_law 102 = .ok (.aload_n 2, 1) := by decide +kernel
theorem dL_law_103 : decode cL_law 103 = .ok (.aload_n 0, 1) := by decide +kernel
theorem dL_law_104 : decode cL_law 104 = .ok (.iload_n 3, 1) := by decide +kernel
theorem dL_law_105 : decode cL_law 105 = .ok (.iconst 1, 1) := by decide +kernel
theorem dL_law_106 : decode cL_law 106 = .ok (.iadd, 1) := by decide +kernel
theorem dL_law_107 : decode cL_law 107 = .ok (.iaload, 1) := by decide +kernel
theorem dL_law_108 : decode cL_law 108 = .ok (.aload_n 0, 1) := by decide +kernel
theorem dL_law_109 : decode cL_law 109 = .ok (.iload_n 3, 1) := by decide +kernel
theorem dL_law_110 : decode cL_law 110 = .ok (.iconst 2, 1) := by decide +kernel
theorem dL_law_111 : decode cL_law 111 = .ok (.iadd, 1) := by decide +kernel
theorem dL_law_112 : decode cL_law 112 = .ok (.iaload, 1) := by decide +kernel
theorem dL_law_113 : decode cL_law 113 = .ok (.invokevirtual 17, 3) := by decide +kernel
theorem dL_law_116 : decode cL_law 116 = .ok (.if_icmp .eq 228, 3) := by decide +kernel
theorem dL_law_119 : decode cL_law 119 = .ok (.iconst 0, 1) := by decide +kernel
theorem dL_law_120 : decode cL_law 120 = .ok (.ireturn, 1) := by decide +kernel
theorem dL_law_121 : decode cL_law 121 = .ok (.aload_n 1, 1) := by decide +kernel
theorem dL_law_122 : decode cL_law 122 = .ok (.aload_n 0, 1) := by decide +kernel
theorem dL_law_123 : decode cL_law 123 = .ok (.iload_n 3, 1) := by decide +kernel
theorem dL_law_124 : decode cL_law 124 = .ok (.iconst 1, 1) := by decide +kernel
theorem dL_law_125 : decode cL_law 125 = .ok (.iadd, 1) := by decide +kernel
theorem dL_law_126 : decode cL_law 126 = .ok (.iaload, 1) := by decide +kernel
theorem dL_law_127 : decode cL_law 127 = .ok (.invokevirtual 18, 3) := by decide +kernel
theorem dL_law_130 : decode cL_law 130 = .ok (.aload_n 2, 1) := by decide +kernel
theorem dL_law_131 : decode cL_law 131 = .ok (.aload_n 0, 1) := by decide +kernel
theorem dL_law_132 : decode cL_law 132 = .ok (.iload_n 3, 1) := by decide +kernel
theorem dL_law_133 : decode cL_law 133 = .ok (.iconst 1, 1) := by decide +kernel
theorem dL_law_134 : decode cL_law 134 = .ok (.iadd, 1) := by decide +kernel
theorem dL_law_135 : decode cL_law 135 = .ok (.iaload, 1) := by decide +kernel
theorem dL_law_136 : decode cL_law 136 = .ok (.invokevirtual 22, 3) := by decide +kernel
theorem dL_law_139 : decode cL_law 139 = .ok (.if_icmp .eq 205, 3) := by decide +kernel
theorem dL_law_142 : decode cL_law 142 = .ok (.iconst 0, 1) := by decide +kernel
theorem dL_law_143 : decode cL_law 143 = .ok (.ireturn, 1) := by decide +kernel
theorem dL_law_144 : decode cL_law 144 = .ok (.aload_n 1, 1) := by decide +kernel
theorem dL_law_145 : decode cL_law 145 = .ok (.aload_n 0, 1) := by decide +kernel
theorem dL_law_146 : decode cL_law 146 = .ok (.iload_n 3, 1) := by decide +kernel
theorem dL_law_147 : decode cL_law 147 = .ok (.iconst 1, 1) := by decide +kernel
theorem dL_law_148 : decode cL_law 148 = .ok (.iadd, 1) := by decide +kernel
theorem dL_law_149 : decode cL_law 149 = .ok (.iaload, 1) := by decide +kernel
theorem dL_law_150 : decode cL_law 150 = .ok (.aload_n 0, 1) := by decide +kernel
theorem dL_law_151 : decode cL_law 151 = .ok (.iload_n 3, 1) := by decide +kernel
theorem dL_law_152 : decode cL_law 152 = .ok (.iconst 2, 1) := by decide +kernel
theorem dL_law_153 : decode cL_law 153 = .ok (.iadd, 1) := by decide +kernel
theorem dL_law_154 : decode cL_law 154 = .ok (.iaload, 1) := by decide +kernel
theorem dL_law_155 : decode cL_law 155 = .ok (.invokevirtual 23, 3) := by decide +kernel
theorem dL_law_158 : decode cL_law 158 = .ok (.aload_n 2, 1) := by decide +kernel
theorem dL_law_159 : decode cL_law 159 = .ok (.aload_n 0, 1) := by decide +kernel
theorem dL_law_160 : decode cL_law 160 = .ok (.iload_n 3, 1) := by decide +kernel
theorem dL_law_161 : decode cL_law 161 = .ok (.iconst 1, 1) := by decide +kernel
theorem dL_law_162 : decode cL_law 162 = .ok (.iadd, 1) := by decide +kernel
theorem dL_law_163 : decode cL_law 163 = .ok (.iaload, 1) := by decide +kernel
theorem dL_law_164 : decode cL_law 164 = .ok (.aload_n 0, 1) := by decide +kernel
theorem dL_law_165 : decode cL_law 165 = .ok (.iload_n 3, 1) := by decide +kernel
theorem dL_law_166 : decode cL_law 166 = .ok (.iconst 2, 1) := by decide +kernel
theorem dL_law_167 : decode cL_law 167 = .ok (.iadd, 1) := by decide +kernel
theorem dL_law_168 : decode cL_law 168 = .ok (.iaload, 1) := by decide +kernel
theorem dL_law_169 : decode cL_law 169 = .ok (.invokevirtual 26, 3) := by decide +kernel
theorem dL_law_172 : decode cL_law 172 = .ok (.if_icmp .eq 172, 3) := by decide +kernel
theorem dL_law_175 : decode cL_law 175 = .ok (.iconst 0, 1) := by decide +kernel
theorem dL_law_176 : decode cL_law 176 = .ok (.ireturn, 1) := by decide +kernel
theorem dL_law_177 : decode cL_law 177 = .ok (.aload_n 1, 1) := by decide +kernel
theorem dL_law_178 : decode cL_law 178 = .ok (.invokevirtual 27, 3) := by decide +kernel
theorem dL_law_181 : decode cL_law 181 = .ok (.aload_n 2, 1) := by decide +kernel
theorem dL_law_182 : decode cL_law 182 = .ok (.invokevirtual 31, 3) := by decide +kernel
theorem dL_law_185 : decode cL_law 185 = .ok (.if_icmp .eq 159, 3) := by decide +kernel
theorem dL_law_188 : decode cL_law 188 = .ok (.iconst 0, 1) := by decide +kernel
theorem dL_law_189 : decode cL_law 189 = .ok (.ireturn, 1) := by decide +kernel
theorem dL_law_190 : decode cL_law 190 = .ok (.aload_n 1, 1) := by decide +kernel
theorem dL_law_191 : decode cL_law 191 = .ok (.aload_n 0, 1) := by decide +kernel
theorem dL_law_192 : decode cL_law 192 = .ok (.iload_n 3, 1) := by decide +kernel
theorem dL_law_193 : decode cL_law 193 = .ok (.iconst 1, 1) := by decide +kernel
theorem dL_law_194 : decode cL_law 194 = .ok (.iadd, 1) := by decide +kernel
theorem dL_law_195 : decode cL_law 195 = .ok (.iaload, 1) := by decide +kernel
theorem dL_law_196 : decode cL_law 196 = .ok (.invokevirtual 32, 3) := by decide +kernel
theorem dL_law_199 : decode cL_law 199 = .ok (.aload_n 2, 1) := by decide +kernel
theorem dL_law_200 : decode cL_law 200 = .ok (.aload_n 0, 1) := by decide +kernel
theorem dL_law_201 : decode cL_law 201 = .ok (.iload_n 3, 1) := by decide +kernel
theorem dL_law_202 : decode cL_law 202 = .ok (.iconst 1, 1) := by decide +kernel
theorem dL_law_203 : decode cL_law 203 = .ok (.iadd, 1) := by decide +kernel
theorem dL_law_204 : decode cL_law 204 = .ok (.iaload, 1) := by decide +kernel
theorem dL_law_205 : decode cL_law 205 = .ok (.invokevirtual 35, 3) := by decide +kernel
theorem dL_law_208 : decode cL_law 208 = .ok (.if_icmp .eq 136, 3) := by decide +kernel
theorem dL_law_211 : decode cL_law 211 = .ok (.iconst 0, 1) := by decide +kernel
theorem dL_law_212 : decode cL_law 212 = .ok (.ireturn, 1) := by decide +kernel
theorem dL_law_213 : decode cL_law 213 = .ok (.aload_n 1, 1) := by decide +kernel
theorem dL_law_214 : decode cL_law 214 = .ok (.aload_n 0, 1) := by decide +kernel
theorem dL_law_215 : decode cL_law 215 = .ok (.iload_n 3, 1) := by decide +kernel
theorem dL_law_216 : decode cL_law 216 = .ok (.iconst 1, 1) := by decide +kernel
theorem dL_law_217 : decode cL_law 217 = .ok (.iadd, 1) := by decide +kernel
theorem dL_law_218 : decode cL_law 218 = .ok (.iaload, 1) := by decide +kernel
theorem dL_law_219 : decode cL_law 219 = .ok (.invokevirtual 36, 3) := by decide +kernel
theorem dL_law_222 : decode cL_law 222 = .ok (.aload_n 2, 1) := by decide +kernel
theorem dL_law_223 : decode cL_law 223 = .ok (.aload_n 0, 1) := by decide +kernel
theorem dL_law_224 : decode cL_law 224 = .ok (.iload_n 3, 1) := by decide +kernel
theorem dL_law_225 : decode cL_law 225 = .ok (.iconst 1, 1) := by decide +kernel
theorem dL_law_226 : decode cL_law 226 = .ok (.iadd, 1) := by decide +kernel
theorem dL_law_227 : decode cL_law 227 = .ok (.iaload, 1) := by decide +kernel
theorem dL_law_228 : decode cL_law 228 = .ok (.invokevirtual 39, 3) := by decide +kernel
theorem dL_law_231 : decode cL_law 231 = .ok (.if_icmp .eq 113, 3) := by decide +kernel
theorem dL_law_234 : decode cL_law 234 = .ok (.iconst 0, 1) := by decide +kernel
theorem dL_law_235 : decode cL_law 235 = .ok (.ireturn, 1) := by decide +kernel
theorem dL_law_236 : decode cL_law 236 = .ok (.aload_n 1, 1) := by decide +kernel
theorem dL_law_237 : decode cL_law 237 = .ok (.aload_n 0, 1) := by decide +kernel
theorem dL_law_238 : decode cL_law 238 = .ok (.iload_n 3, 1) := by decide +kernel
theorem dL_law_239 : decode cL_law 239 = .ok (.iconst 1, 1) := by decide +kernel
theorem dL_law_240 : decode cL_law 240 = .ok (.iadd, 1) := by decide +kernel
theorem dL_law_241 : decode cL_law 241 = .ok (.iaload, 1) := by decide +kernel
theorem dL_law_242 : decode cL_law 242 = .ok (.invokevirtual 40, 3) := by decide +kernel
theorem dL_law_245 : decode cL_law 245 = .ok (.aload_n 2, 1) := by decide +kernel
theorem dL_law_246 : decode cL_law 246 = .ok (.aload_n 0, 1) := by decide +kernel
theorem dL_law_247 : decode cL_law 247 = .ok (.iload_n 3, 1) := by decide +kernel
theorem dL_law_248 : decode cL_law 248 = .ok (.iconst 1, 1) := by decide +kernel
theorem dL_law_249 : decode cL_law 249 = .ok (.iadd, 1) := by decide +kernel
theorem dL_law_250 : decode cL_law 250 = .ok (.iaload, 1) := by decide +kernel
theorem dL_law_251 : decode cL_law 251 = .ok (.invokevirtual 43, 3) := by decide +kernel
theorem dL_law_254 : decode cL_law 254 = .ok (.if_icmp .eq 90, 3) := by decide +kernel
theorem dL_law_257 : decode cL_law 257 = .ok (.iconst 0, 1) := by decide +kernel
theorem dL_law_258 : decode cL_law 258 = .ok (.ireturn, 1) := by decide +kernel
theorem dL_law_259 : decode cL_law 259 = .ok (.aload_n 1, 1) := by decide +kernel
theorem dL_law_260 : decode cL_law 260 = .ok (.invokevirtual 44, 3) := by decide +kernel
theorem dL_law_263 : decode cL_law 263 = .ok (.aload_n 2, 1) := by decide +kernel
theorem dL_law_264 : decode cL_law 264 = .ok (.invokevirtual 47, 3) := by decide +kernel
theorem dL_law_267 : decode cL_law 267 = .ok (.if_icmp .eq 77, 3) := by decide +kernel
theorem dL_law_270 : decode cL_law 270 = .ok (.iconst 0, 1) := by decide +kernel
theorem dL_law_271 : decode cL_law 271 = .ok (.ireturn, 1) := by decide +kernel
theorem dL_law_272 : decode cL_law 272 = .ok (.aload_n 1, 1) := by decide +kernel
theorem dL_law_273 : decode cL_law 273 = .ok (.aload_n 0, 1) := by decide +kernel
theorem dL_law_274 : decode cL_law 274 = .ok (.iload_n 3, 1) := by decide +kernel
theorem dL_law_275 : decode cL_law 275 = .ok (.iconst 1, 1) := by decide +kernel
theorem dL_law_276 : decode cL_law 276 = .ok (.iadd, 1) := by decide +kernel
theorem dL_law_277 : decode cL_law 277 = .ok (.iaload, 1) := by decide +kernel
theorem dL_law_278 : decode cL_law 278 = .ok (.invokevirtual 48, 3) := by decide +kernel
theorem dL_law_281 : decode cL_law 281 = .ok (.aload_n 2, 1) := by decide +kernel
theorem dL_law_282 : decode cL_law 282 = .ok (.aload_n 0, 1) := by decide +kernel
theorem dL_law_283 : decode cL_law 283 = .ok (.iload_n 3, 1) := by decide +kernel
theorem dL_law_284 : decode cL_law 284 = .ok (.iconst 1, 1) := by decide +kernel
theorem dL_law_285 : decode cL_law 285 = .ok (.iadd, 1) := by decide +kernel
theorem dL_law_286 : decode cL_law 286 = .ok (.iaload, 1) := by decide +kernel
theorem dL_law_287 : decode cL_law 287 = .ok (.invokevirtual 51, 3) := by decide +kernel
theorem dL_law_290 : decode cL_law 290 = .ok (.if_icmp .eq 54, 3) := by decide +kernel
theorem dL_law_293 : decode cL_law 293 = .ok (.iconst 0, 1) := by decide +kernel
theorem dL_law_294 : decode cL_law 294 = .ok (.ireturn, 1) := by decide +kernel
theorem dL_law_295 : decode cL_law 295 = .ok (.aload_n 1, 1) := by decide +kernel
theorem dL_law_296 : decode cL_law 296 = .ok (.aload_n 0, 1) := by decide +kernel
theorem dL_law_297 : decode cL_law 297 = .ok (.iload_n 3, 1) := by decide +kernel
theorem dL_law_298 : decode cL_law 298 = .ok (.iconst 1, 1) := by decide +kernel
theorem dL_law_299 : decode cL_law 299 = .ok (.iadd, 1) := by decide +kernel
theorem dL_law_300 : decode cL_law 300 = .ok (.iaload, 1) := by decide +kernel
theorem dL_law_301 : decode cL_law 301 = .ok (.aload_n 0, 1) := by decide +kernel
theorem dL_law_302 : decode cL_law 302 = .ok (.iload_n 3, 1) := by decide +kernel
theorem dL_law_303 : decode cL_law 303 = .ok (.iconst 2, 1) := by decide +kernel
theorem dL_law_304 : decode cL_law 304 = .ok (.iadd, 1) := by decide +kernel
theorem dL_law_305 : decode cL_law 305 = .ok (.iaload, 1) := by decide +kernel
theorem dL_law_306 : decode cL_law 306 = .ok (.ifCond .eq 7, 3) := by decide +kernel
theorem dL_law_309 : decode cL_law 309 = .ok (.iconst 1, 1) := by decide +kernel
theorem dL_law_310 : decode cL_law 310 = .ok (.goto 4, 3) := by decide +kernel
theorem dL_law_313 : decode cL_law 313 = .ok (.iconst 0, 1) := by decide +kernel
theorem dL_law_314 : decode cL_law 314 = .ok (.invokevirtual 52, 3) := by decide +kernel
theorem dL_law_317 : decode cL_law 317 = .ok (.aload_n 2, 1) := by decide +kernel
theorem dL_law_318 : decode cL_law 318 = .ok (.aload_n 0, 1) := by decide +kernel
theorem dL_law_319 : decode cL_law 319 = .ok (.iload_n 3, 1) := by decide +kernel
theorem dL_law_320 : decode cL_law 320 = .ok (.iconst 1, 1) := by decide +kernel
theorem dL_law_321 : decode cL_law 321 = .ok (.iadd, 1) := by decide +kernel
theorem dL_law_322 : decode cL_law 322 = .ok (.iaload, 1) := by decide +kernel
theorem dL_law_323 : decode cL_law 323 = .ok (.aload_n 0, 1) := by decide +kernel
theorem dL_law_324 : decode cL_law 324 = .ok (.iload_n 3, 1) := by decide +kernel
theorem dL_law_325 : decode cL_law 325 = .ok (.iconst 2, 1) := by decide +kernel
theorem dL_law_326 : decode cL_law 326 = .ok (.iadd, 1) := by decide +kernel
theorem dL_law_327 : decode cL_law 327 = .ok (.iaload, 1) := by decide +kernel
theorem dL_law_328 : decode cL_law 328 = .ok (.ifCond .eq 7, 3) := by decide +kernel
theorem dL_law_331 : decode cL_law 331 = .ok (.iconst 1, 1) := by decide +kernel
theorem dL_law_332 : decode cL_law 332 = .ok (.goto 4, 3) := by decide +kernel
theorem dL_law_335 : decode cL_law 335 = .ok (.iconst 0, 1) := by decide +kernel
theorem dL_law_336 : decode cL_law 336 = .ok (.invokevirtual 56, 3) := by decide +kernel
theorem dL_law_339 : decode cL_law 339 = .ok (.if_icmp .eq 5, 3) := by decide +kernel
theorem dL_law_342 : decode cL_law 342 = .ok (.iconst 0, 1) := by decide +kernel
theorem dL_law_343 : decode cL_law 343 = .ok (.ireturn, 1) := by decide +kernel
theorem dL_law_344 : decode cL_law 344 = .ok (.iinc 3 3, 3) := by decide +kernel
theorem dL_law_347 : decode cL_law 347 = .ok (.goto (-329), 3) := by decide +kernel
theorem dL_law_350 : decode cL_law 350 = .ok (.iconst 1, 1) := by decide +kernel
theorem dL_law_351 : decode cL_law 351 = .ok (.ireturn, 1) := by decide +kernel
theorem q12 : (Jvm.Cond.initialized "PosetWidthLaw") ∈ lw_all := lw_g (lw_at lw_m0 0 rfl) rfl
set_option maxRecDepth 100000
theorem q15 : (Jvm.Cond.classLink "PosetWidthLaw" (7 : Nat) "PosetWidth") ∈ lw_all := lw_g (lw_at lw_m0 3 rfl) rfl
theorem q17 : (Jvm.Cond.methodLink "PosetWidthLaw" (9 : Nat) ({ cls := "PosetWidth", name := "<init>", desc := "()V" } : Jvm.MethodName)) ∈ lw_all := lw_g (lw_at lw_m0 5 rfl) rfl
theorem q46 : (Jvm.Cond.methodLink "PosetWidthLaw" (13 : Nat) ({ cls := "PosetWidth", name := "put", desc := "(II)I" } : Jvm.MethodName)) ∈ lw_all := lw_g (lw_at lw_m0 34 rfl) rfl
theorem q60 : (Jvm.Cond.methodLink "PosetWidthLaw" (18 : Nat) ({ cls := "PosetWidth", name := "release", desc := "(I)I" } : Jvm.MethodName)) ∈ lw_all := lw_g (lw_at lw_m0 48 rfl) rfl
theorem q64 : (Jvm.Cond.methodLink "PosetWidthLaw" (23 : Nat) ({ cls := "PosetWidth", name := "before", desc := "(II)I" } : Jvm.MethodName)) ∈ lw_all := lw_g (lw_at lw_m0 52 rfl) rfl
theorem q68 : (Jvm.Cond.methodLink "PosetWidthLaw" (27 : Nat) ({ cls := "PosetWidth", name := "width", desc := "()I" } : Jvm.MethodName)) ∈ lw_all := lw_g (lw_at lw_m0 56 rfl) rfl
theorem q88 : (Jvm.Cond.methodLink "PosetWidthLaw" (32 : Nat) ({ cls := "PosetWidth", name := "widthWith", desc := "(I)I" } : Jvm.MethodName)) ∈ lw_all := lw_g (lw_at lw_m0 76 rfl) rfl
theorem q96 : (Jvm.Cond.methodLink "PosetWidthLaw" (36 : Nat) ({ cls := "PosetWidth", name := "widthWithout", desc := "(I)I" } : Jvm.MethodName)) ∈ lw_all := lw_g (lw_at lw_m0 84 rfl) rfl
theorem q100 : (Jvm.Cond.methodLink "PosetWidthLaw" (40 : Nat) ({ cls := "PosetWidth", name := "chosen", desc := "(I)I" } : Jvm.MethodName)) ∈ lw_all := lw_g (lw_at lw_m0 88 rfl) rfl
theorem q104 : (Jvm.Cond.methodLink "PosetWidthLaw" (44 : Nat) ({ cls := "PosetWidth", name := "height", desc := "()I" } : Jvm.MethodName)) ∈ lw_all := lw_g (lw_at lw_m0 92 rfl) rfl
theorem q120 : (Jvm.Cond.methodLink "PosetWidthLaw" (48 : Nat) ({ cls := "PosetWidth", name := "heightWith", desc := "(I)I" } : Jvm.MethodName)) ∈ lw_all := lw_g (lw_at lw_m0 108 rfl) rfl
theorem q121 : (Jvm.Cond.methodLink "PosetWidthLaw" (52 : Nat) ({ cls := "PosetWidth", name := "widthBeside", desc := "(IZ)I" } : Jvm.MethodName)) ∈ lw_all := lw_g (lw_at lw_m0 109 rfl) rfl
theorem q125 : (Jvm.Cond.classLink "PosetWidthLaw" (10 : Nat) "PosetWidthModel") ∈ lw_all := lw_g (lw_at lw_m0 113 rfl) rfl
theorem q127 : (Jvm.Cond.methodLink "PosetWidthLaw" (12 : Nat) ({ cls := "PosetWidthModel", name := "<init>", desc := "()V" } : Jvm.MethodName)) ∈ lw_all := lw_g (lw_at lw_m0 115 rfl) rfl
theorem q136 : (Jvm.Cond.methodLink "PosetWidthLaw" (17 : Nat) ({ cls := "PosetWidthModel", name := "put", desc := "(II)I" } : Jvm.MethodName)) ∈ lw_all := lw_g (lw_at lw_m0 124 rfl) rfl
theorem q147 : (Jvm.Cond.methodLink "PosetWidthLaw" (22 : Nat) ({ cls := "PosetWidthModel", name := "release", desc := "(I)I" } : Jvm.MethodName)) ∈ lw_all := lw_g (lw_at lw_m0 135 rfl) rfl
theorem q151 : (Jvm.Cond.methodLink "PosetWidthLaw" (26 : Nat) ({ cls := "PosetWidthModel", name := "before", desc := "(II)I" } : Jvm.MethodName)) ∈ lw_all := lw_g (lw_at lw_m0 139 rfl) rfl
theorem q155 : (Jvm.Cond.methodLink "PosetWidthLaw" (31 : Nat) ({ cls := "PosetWidthModel", name := "width", desc := "()I" } : Jvm.MethodName)) ∈ lw_all := lw_g (lw_at lw_m0 143 rfl) rfl
theorem q174 : (Jvm.Cond.methodLink "PosetWidthLaw" (35 : Nat) ({ cls := "PosetWidthModel", name := "widthWith", desc := "(I)I" } : Jvm.MethodName)) ∈ lw_all := lw_g (lw_at lw_m0 162 rfl) rfl
theorem q178 : (Jvm.Cond.methodLink "PosetWidthLaw" (39 : Nat) ({ cls := "PosetWidthModel", name := "widthWithout", desc := "(I)I" } : Jvm.MethodName)) ∈ lw_all := lw_g (lw_at lw_m0 166 rfl) rfl
theorem q182 : (Jvm.Cond.methodLink "PosetWidthLaw" (43 : Nat) ({ cls := "PosetWidthModel", name := "chosen", desc := "(I)I" } : Jvm.MethodName)) ∈ lw_all := lw_g (lw_at lw_m0 170 rfl) rfl
theorem q186 : (Jvm.Cond.methodLink "PosetWidthLaw" (47 : Nat) ({ cls := "PosetWidthModel", name := "height", desc := "()I" } : Jvm.MethodName)) ∈ lw_all := lw_g (lw_at lw_m0 174 rfl) rfl
theorem q190 : (Jvm.Cond.methodLink "PosetWidthLaw" (51 : Nat) ({ cls := "PosetWidthModel", name := "heightWith", desc := "(I)I" } : Jvm.MethodName)) ∈ lw_all := lw_g (lw_at lw_m0 178 rfl) rfl
theorem q194 : (Jvm.Cond.methodLink "PosetWidthLaw" (56 : Nat) ({ cls := "PosetWidthModel", name := "widthBeside", desc := "(IZ)I" } : Jvm.MethodName)) ∈ lw_all := lw_g (lw_at lw_m0 182 rfl) rfl
end
section
/-! ===== Int32 by its bits: bt x i ===== -/
def bt (x : Int32) (i : Nat) : Bool := x.toBitVec.getLsbD i
theorem b_ext {x y : Int32} (h : ∀ i, i < 32 → bt x i = bt y i) : x = y := Int32.toBitVec_inj.mp (BitVec.eq_of_getLsbD_eq (fun i hi => h i hi))
theorem b_or (x y : Int32) (i : Nat) : bt (x ||| y) i = (bt x i || bt y i) := by unfold bt; rw [Int32.toBitVec_or, BitVec.getLsbD_or]
theorem b_and (x y : Int32) (i : Nat) : bt (x &&& y) i = (bt x i && bt y i) := by unfold bt; rw [Int32.toBitVec_and, BitVec.getLsbD_and]
theorem b_xor (x y : Int32) (i : Nat) : bt (x ^^^ y) i = (bt x i ^^ bt y i) := by unfold bt; rw [Int32.toBitVec_xor, BitVec.getLsbD_xor]
theorem b_big {x : Int32} {i : Nat} (h : 32 ≤ i) : bt x i = false := BitVec.getLsbD_of_ge _ _ h
theorem b_m1 : ∀ i, i < 32 → bt (-1) i = true := by decide +kernel
theorem b_0 (i : Nat) : bt 0 i = false := BitVec.getLsbD_zero
theorem s_l : ∀ n, n < 32 → ((nI n &&& 31).toBitVec.smod 32).toNat = n := by decide +kernel
theorem s_u : ∀ n, n < 32 → (((nI n).toUInt32 &&& Int32.toUInt32 31).toBitVec % 32).toNat = n := by decide +kernel
theorem b_shl (n : Nat) (hn : n < 32) (x : Int32) {i : Nat} (hi : i < 32) : bt (x <<< (nI n &&& 31)) i = (decide (n ≤ i) && bt x (i - n)) := by
  unfold bt
  rw [Int32.toBitVec_shiftLeft]
  show (x.toBitVec <<< ((nI n &&& 31).toBitVec.smod 32).toNat).getLsbD i = _
  rw [s_l n hn, BitVec.getLsbD_shiftLeft]
  rcases Nat.lt_or_ge i n with h | h
  · simp [h, Nat.not_le.mpr h]
  · simp [hi, h, Nat.not_lt.mpr h]
theorem b_ushr (n : Nat) (hn : n < 32) (x : Int32) (i : Nat) : bt ((x.toUInt32 >>> ((nI n).toUInt32 &&& Int32.toUInt32 31)).toInt32) i = bt x (n + i) := by
  show (x.toUInt32 >>> ((nI n).toUInt32 &&& Int32.toUInt32 31)).toBitVec.getLsbD i = x.toUInt32.toBitVec.getLsbD (n + i)
  rw [UInt32.toBitVec_shiftRight]
  show (x.toUInt32.toBitVec >>> (((nI n).toUInt32 &&& Int32.toUInt32 31).toBitVec % 32).toNat).getLsbD i = _
  rw [s_u n hn, BitVec.getLsbD_ushiftRight]
theorem b_sshr (n : Nat) (hn : n < 32) (x : Int32) {i : Nat} (hi : i < 32) : bt (x >>> (nI n &&& 31)) i = if n + i < 32 then bt x (n + i) else bt x 31 := by
  unfold bt
  rw [Int32.toBitVec_shiftRight]
  show (x.toBitVec.sshiftRight ((nI n &&& 31).toBitVec.smod 32).toNat).getLsbD i = _
  rw [s_l n hn, BitVec.getLsbD_sshiftRight, BitVec.msb_eq_getLsbD_last]
  simp [hi]
/-! ===== sets of the ten things as ints ===== -/
def pw_mk (P : Nat → Bool) : Nat → Nat
  | 0 => 0
  | n + 1 => pw_mk P n + (if P n = true then 2 ^ n else 0)
theorem pw_mk_lt (P : Nat → Bool) : ∀ n, pw_mk P n < 2 ^ n
  | 0 => by simp [pw_mk]
  | n + 1 => by
    have h := pw_mk_lt P n
    simp only [pw_mk, Nat.pow_succ]
    split <;> omega
theorem pw_mk_bit (P : Nat → Bool) : ∀ n i, (pw_mk P n).testBit i = (decide (i < n) && P i)
  | 0, i => by simp [pw_mk]
  | n + 1, i => by
    have h := pw_mk_lt P n
    have ih := pw_mk_bit P n i
    simp only [pw_mk]
    rcases Nat.lt_trichotomy i n with q | q | q
    · have h1 : i < n + 1 := by omega
      split
      · rw [Nat.add_comm, Nat.testBit_two_pow_add_gt q, ih]
        simp [q, h1]
      · rw [Nat.add_zero, ih]
        simp [q, h1]
    · subst q
      split
      · rename_i hp
        rw [Nat.add_comm, Nat.testBit_two_pow_add_eq, Nat.testBit_lt_two_pow h]
        simp [hp]
      · rename_i hp
        rw [Nat.add_zero, Nat.testBit_lt_two_pow h]
        simp [hp]
    · have hb : pw_mk P n + (if P n = true then 2 ^ n else 0) < 2 ^ i := by
        have h2 : 2 ^ (n + 1) ≤ 2 ^ i := Nat.pow_le_pow_right (by omega) (by omega)
        rw [Nat.pow_succ] at h2
        split <;> omega
      rw [Nat.testBit_lt_two_pow hb, decide_eq_false (by omega)]
      rfl
theorem pw_mk_congr {P Q : Nat → Bool} : ∀ n, (∀ i, i < n → P i = Q i) → pw_mk P n = pw_mk Q n
  | 0, _ => rfl
  | n + 1, h => by
    simp only [pw_mk]
    rw [pw_mk_congr n (fun i hi => h i (by omega)), h n (by omega)]
theorem pw_mk_self {k : Nat} (hk : k < 1024) : pw_mk (fun i => k.testBit i) 10 = k := by
  apply Nat.eq_of_testBit_eq
  intro i
  rw [pw_mk_bit]
  rcases Nat.lt_or_ge i 10 with h | h
  · simp [h]
  · have h2 : 2 ^ 10 ≤ 2 ^ i := Nat.pow_le_pow_right (by omega) h
    rw [Nat.testBit_lt_two_pow (show k < 2 ^ i by omega), decide_eq_false (by omega)]
    rfl
theorem pw_mk_less {P Q : Nat → Bool} {t : Nat} (hp : P t = true) (hq : Q t = false) : ∀ n, t < n → (∀ i, t < i → i < n → P i = Q i) → pw_mk Q n < pw_mk P n
  | 0, h, _ => absurd h (by omega)
  | n + 1, h, e => by
    rcases Nat.lt_or_ge t n with q | q
    · have ih := pw_mk_less hp hq n q (fun i a b => e i a (by omega))
      simp only [pw_mk]
      rw [e n q (by omega)]
      omega
    · have ht : t = n := by omega
      subst ht
      have h1 := pw_mk_lt Q t
      simp only [pw_mk, hp, hq]
      simp
      omega
def pw_ms (P : Nat → Bool) : Int32 := nI (pw_mk P 10)
def pw_bI (b : Bool) : Int32 := if b = true then 1 else 0
theorem pw_bt_nI (k i : Nat) : bt (nI k) i = (decide (i < 32) && k.testBit i) := by
  show (BitVec.ofNat 32 k).getLsbD i = _
  rw [BitVec.getLsbD_ofNat]
theorem pw_ms_bt (P : Nat → Bool) (i : Nat) : bt (pw_ms P) i = (decide (i < 10) && P i) := by
  unfold pw_ms
  rw [pw_bt_nI, pw_mk_bit]
  rcases Nat.lt_or_ge i 10 with h | h
  · simp [h, show i < 32 by omega]
  · simp [show ¬ i < 10 by omega]
theorem pw_ms_ext {P Q : Nat → Bool} (h : ∀ i, i < 10 → P i = Q i) : pw_ms P = pw_ms Q := by
  unfold pw_ms
  rw [pw_mk_congr 10 h]
theorem pw_ms_inj {P Q : Nat → Bool} (h : pw_ms P = pw_ms Q) : ∀ i, i < 10 → P i = Q i := by
  intro i hi
  have h1 := pw_ms_bt P i
  have h2 := pw_ms_bt Q i
  rw [h, h2] at h1
  simpa [hi] using h1.symm
/-- a number by its bits is the set of them -/
theorem pw_ms_of {x : Int32} {P : Nat → Bool} (h : ∀ i, i < 32 → bt x i = (decide (i < 10) && P i)) : x = pw_ms P := by
  refine b_ext (fun i hi => ?_)
  rw [h i hi, pw_ms_bt]
theorem pw_ms_or (P Q : Nat → Bool) : pw_ms P ||| pw_ms Q = pw_ms (fun i => P i || Q i) := by
  refine pw_ms_of (fun i hi => ?_)
  rw [b_or, pw_ms_bt, pw_ms_bt]
  cases decide (i < 10) <;> simp
theorem pw_ms_and (P Q : Nat → Bool) : pw_ms P &&& pw_ms Q = pw_ms (fun i => P i && Q i) := by
  refine pw_ms_of (fun i hi => ?_)
  rw [b_and, pw_ms_bt, pw_ms_bt]
  cases decide (i < 10) <;> simp
/-- and not -/
theorem pw_ms_andn (P Q : Nat → Bool) : pw_ms P &&& (pw_ms Q ^^^ (-1)) = pw_ms (fun i => P i && !Q i) := by
  refine pw_ms_of (fun i hi => ?_)
  rw [b_and, b_xor, b_m1 i hi, pw_ms_bt, pw_ms_bt]
  cases decide (i < 10) <;> simp
theorem pw_ms_one : ∀ t, t < 10 → (1 : Int32) <<< (nI t &&& 31) = pw_ms (fun i => i == t) := by decide +kernel
theorem pw_ms_all : (1023 : Int32) = pw_ms (fun _ => true) := by decide +kernel
theorem pw_ms_0 : (0 : Int32) = pw_ms (fun _ => false) := by decide +kernel
theorem pw_bt_1 : ∀ i, i < 32 → bt 1 i = decide (i = 0) := by decide +kernel
theorem pw_and1 {x : Int32} {b : Bool} (h : bt x 0 = b) : x &&& 1 = pw_bI b := by
  refine b_ext (fun i hi => ?_)
  rw [b_and, pw_bt_1 i hi]
  cases b with
  | false =>
    show _ = bt 0 i
    rw [b_0]
    by_cases h0 : i = 0
    · subst h0; simp [h]
    · simp [h0]
  | true =>
    show _ = bt 1 i
    rw [pw_bt_1 i hi]
    by_cases h0 : i = 0
    · subst h0; simp [h]
    · simp [h0]
/-- the bit of a thing, as the code reads it -/
theorem pw_ms_bit (P : Nat → Bool) {t : Nat} (ht : t < 10) : ((pw_ms P).toUInt32 >>> ((nI t).toUInt32 &&& Int32.toUInt32 31)).toInt32 &&& 1 = pw_bI (P t) := by
  refine pw_and1 ?_
  rw [b_ushr t (by omega), pw_ms_bt]
  simp [ht]
theorem pw_ms_bitS (P : Nat → Bool) {t : Nat} (ht : t < 10) : (pw_ms P) >>> (nI t &&& 31) &&& 1 = pw_bI (P t) := by
  refine pw_and1 ?_
  rw [b_sshr t (by omega) _ (by omega), if_pos (by omega), pw_ms_bt]
  simp [ht]
theorem pw_ms_eq0 {P : Nat → Bool} : pw_ms P = 0 ↔ ∀ i, i < 10 → P i = false := by
  rw [pw_ms_0]
  exact ⟨fun h => pw_ms_inj h, fun h => pw_ms_ext h⟩
theorem pw_ms_nI {k : Nat} (hk : k < 1024) : nI k = pw_ms (fun i => k.testBit i) := by
  unfold pw_ms
  rw [pw_mk_self hk]
theorem pw_bI_0 {b : Bool} : pw_bI b = 0 ↔ b = false := by cases b <;> decide
theorem pw_bI_n {b : Bool} : ¬ pw_bI b = 0 ↔ b = true := by cases b <;> decide
theorem pw_bI_1 {b : Bool} : pw_bI b = 1 ↔ b = true := by cases b <;> decide
theorem pw_bI_n1 {b : Bool} : ¬ pw_bI b = 1 ↔ b = false := by cases b <;> decide
theorem pw_bI_inj {b c : Bool} (h : pw_bI b = pw_bI c) : b = c := by revert h; cases b <;> cases c <;> decide
theorem pw_bI_nI (b : Bool) : pw_bI b = nI (if b = true then 1 else 0) := by cases b <;> decide
theorem pw_bI_nar (b : Bool) : narrow .boolean (.int (pw_bI b)) = .int (pw_bI b) := by cases b <;> rfl
theorem pw_ms_in (P : Nat → Bool) {t : Nat} (ht : t < 10) : ¬ pw_ms (fun i => P i && (i == t)) = 0 ↔ P t = true := by
  rw [pw_ms_eq0]
  constructor
  · intro h
    cases hp : P t with
    | true => rfl
    | false =>
      refine absurd (fun i _ => ?_) h
      by_cases e : i = t
      · subst e; simp [hp]
      · simp [e]
  · intro hp h
    have := h t ht
    simp [hp] at this
/-- what an array of things-or-none holds -/
def pw_oI (o : Option Nat) : Int32 := match o with
  | none => -1
  | some j => nI j
def pw_up {α : Type} (f : Nat → α) (k : Nat) (x : α) : Nat → α := fun j => if j = k then x else f j
theorem pw_up_s {α : Type} (f : Nat → α) (k : Nat) (x : α) : pw_up f k x k = x := by simp [pw_up]
theorem pw_up_n {α : Type} (f : Nat → α) {k j : Nat} (x : α) (h : j ≠ k) : pw_up f k x j = f j := by simp [pw_up, h]
def pw_En (a : Nat → Int32) (f : Nat → Option Nat) : Prop := ∀ i, i < 10 → a i = pw_oI (f i)
theorem pw_oI_neg {o : Option Nat} (ho : ∀ j, o = some j → j < 10) : pw_oI o < 0 ↔ o = none := by
  cases o with
  | none => exact ⟨fun _ => rfl, fun _ => by decide⟩
  | some j =>
    have hj := ho j rfl
    exact ⟨fun h => absurd h (nI_pos (by omega)), fun h => by cases h⟩
theorem pw_En_up {a : Nat → Int32} {f : Nat → Option Nat} (h : pw_En a f) (k j : Nat) : pw_En (upd a k (nI j)) (pw_up f k (some j)) := by
  intro i hi
  by_cases e : i = k
  · subst e; rw [pk_us, pw_up_s]; rfl
  · rw [pk_un e, pw_up_n _ _ e]; exact h i hi
end
section
/-! ===== counting below n; orders on the ten things; the greatest spread against a matching ===== -/
def pw_cn (P : Nat → Bool) : Nat → Nat
  | 0 => 0
  | n + 1 => pw_cn P n + (P n).toNat
theorem pw_ne {i k : Nat} (h : ¬ i = k) : (i == k) = false := by simp [h]
theorem pw_tn (b : Bool) : b.toNat = if b = true then 1 else 0 := by cases b <;> rfl
theorem pw_cn_le (P : Nat → Bool) : ∀ n, pw_cn P n ≤ n
  | 0 => Nat.le_refl 0
  | n + 1 => by
    have h := pw_cn_le P n
    have h2 := Bool.toNat_le (P n)
    simp only [pw_cn]
    omega
theorem pw_cn_mono {P Q : Nat → Bool} : ∀ n, (∀ i, i < n → P i = true → Q i = true) → pw_cn P n ≤ pw_cn Q n
  | 0, _ => Nat.le_refl 0
  | n + 1, h => by
    have ih := pw_cn_mono n (fun i hi => h i (by omega))
    have hn := h n (by omega)
    simp only [pw_cn]
    cases hp : P n with
    | true => rw [hn hp]; omega
    | false => show _ + 0 ≤ _; omega
theorem pw_cn_congr {P Q : Nat → Bool} : ∀ n, (∀ i, i < n → P i = Q i) → pw_cn P n = pw_cn Q n
  | 0, _ => rfl
  | n + 1, h => by
    simp only [pw_cn]
    rw [pw_cn_congr n (fun i hi => h i (by omega)), h n (by omega)]
theorem pw_cn_split (P Q : Nat → Bool) : ∀ n, pw_cn P n = pw_cn (fun i => P i && Q i) n + pw_cn (fun i => P i && !Q i) n
  | 0 => rfl
  | n + 1 => by
    have ih := pw_cn_split P Q n
    simp only [pw_cn]
    rw [ih]
    cases P n <;> cases Q n <;> simp <;> omega
theorem pw_cn_zero {P : Nat → Bool} : ∀ n, (∀ i, i < n → P i = false) → pw_cn P n = 0
  | 0, _ => rfl
  | n + 1, h => by
    simp only [pw_cn]
    rw [pw_cn_zero n (fun i hi => h i (by omega)), h n (by omega)]
    rfl
theorem pw_cn_all {P : Nat → Bool} : ∀ n, (∀ i, i < n → P i = true) → pw_cn P n = n
  | 0, _ => rfl
  | n + 1, h => by
    simp only [pw_cn]
    rw [pw_cn_all n (fun i hi => h i (by omega)), h n (by omega)]
    rfl
theorem pw_cn_one (P : Nat → Bool) (k : Nat) : ∀ n, pw_cn (fun i => P i && (i == k)) n = if k < n ∧ P k = true then 1 else 0
  | 0 => by simp [pw_cn]
  | n + 1 => by
    have ih := pw_cn_one P k n
    simp only [pw_cn]
    rw [ih]
    by_cases e : n = k
    · subst e
      cases hp : P n <;> simp
    · have e2 : (n == k) = false := by simp [e]
      rw [e2, Bool.and_false]
      by_cases hk : k < n
      · simp [hk, show k < n + 1 by omega]
      · simp [hk, show ¬ k < n + 1 by omega]
theorem pw_cn_rem {P : Nat → Bool} {k n : Nat} (hk : k < n) (hp : P k = true) : pw_cn P n = pw_cn (fun i => P i && !(i == k)) n + 1 := by
  rw [pw_cn_split P (fun i => i == k) n, pw_cn_one, if_pos ⟨hk, hp⟩]
  omega
theorem pw_cn_pos {P : Nat → Bool} {k n : Nat} (hk : k < n) (hp : P k = true) : 0 < pw_cn P n := by
  rw [pw_cn_rem hk hp]; omega
theorem pw_cn_full {P : Nat → Bool} {n : Nat} (h : n ≤ pw_cn P n) : ∀ i, i < n → P i = true := by
  intro i hi
  cases hp : P i with
  | true => rfl
  | false =>
    have h1 : pw_cn P n ≤ pw_cn (fun j => true && !(j == i)) n := pw_cn_mono n (fun j hj hpj => by
      by_cases e : j = i
      · subst e; rw [hp] at hpj; cases hpj
      · simp [e])
    have h2 := pw_cn_rem (P := fun _ => true) (k := i) (n := n) hi rfl
    have h3 := pw_cn_le (fun _ => true) n
    have h4 : pw_cn (fun _ => true) n = pw_cn (fun j => true && !(j == i)) n + 1 := h2
    omega
theorem pw_cn_ex {P : Nat → Bool} : ∀ {n : Nat}, 0 < pw_cn P n → ∃ k, k < n ∧ P k = true
  | 0, h => absurd h (by simp [pw_cn])
  | n + 1, h => by
    by_cases hp : P n = true
    · exact ⟨n, by omega, hp⟩
    · simp only [pw_cn, pw_tn] at h
      rw [if_neg hp] at h
      obtain ⟨k, hk, hpk⟩ := pw_cn_ex (n := n) (by omega)
      exact ⟨k, by omega, hpk⟩
/-- one to one: no more than there is room for -/
theorem pw_cn_inj (P : Nat → Bool) (f : Nat → Nat) : ∀ (m n : Nat) (Q : Nat → Bool), (∀ i, i < m → P i = true → f i < n ∧ Q (f i) = true) → (∀ i j, i < m → j < m → P i = true → P j = true → f i = f j → i = j) → pw_cn P m ≤ pw_cn Q n
  | 0, n, Q, _, _ => Nat.zero_le _
  | m + 1, n, Q, h, hi => by
    by_cases hp : P m = true
    · obtain ⟨h1, h2⟩ := h m (by omega) hp
      have ih := pw_cn_inj P f m n (fun j => Q j && !(j == f m)) (fun i him hpi => by
        obtain ⟨g1, g2⟩ := h i (by omega) hpi
        refine ⟨g1, ?_⟩
        have hne : f i ≠ f m := fun e => by
          have := hi i m (by omega) (by omega) hpi hp e
          omega
        simp [g2, hne]) (fun i j a b c d e => hi i j (by omega) (by omega) c d e)
      rw [pw_cn_rem h1 h2]
      simp only [pw_cn, pw_tn]
      rw [if_pos hp]
      omega
    · simp only [pw_cn, pw_tn]
      rw [if_neg hp]
      exact pw_cn_inj P f m n Q (fun i him => h i (by omega)) (fun i j a b => hi i j (by omega) (by omega))
/-- a set with one more -/
theorem pw_cn_add {P : Nat → Bool} {k n : Nat} (hk : k < n) (hp : P k = false) : pw_cn (fun i => P i || (i == k)) n = pw_cn P n + 1 := by
  rw [pw_cn_rem (P := fun i => P i || (i == k)) hk (by simp)]
  congr 1
  refine pw_cn_congr n (fun i _ => ?_)
  by_cases e : i = k
  · subst e; simp [hp]
  · simp [pw_ne e]
theorem pw_cn_strict {P Q : Nat → Bool} {k n : Nat} (h : ∀ i, i < n → P i = true → Q i = true) (hk : k < n) (hp : P k = false) (hq : Q k = true) : pw_cn P n < pw_cn Q n := by
  have h1 := pw_cn_add hk hp
  have h2 : pw_cn (fun i => P i || (i == k)) n ≤ pw_cn Q n := pw_cn_mono n (fun i hi hpi => by
    by_cases e : i = k
    · subst e; exact hq
    · simp [e] at hpi; exact h i hi hpi)
  omega
/-! ===== orders ===== -/
def pw_Ord (R : Nat → Nat → Bool) : Prop := (∀ a, a < 10 → R a a = false) ∧ ∀ a b c, a < 10 → b < 10 → c < 10 → R a b = true → R b c = true → R a c = true
def pw_In (Q P : Nat → Bool) : Prop := ∀ a, a < 10 → Q a = true → P a = true
def pw_Anti (R : Nat → Nat → Bool) (Q : Nat → Bool) : Prop := ∀ a b, a < 10 → b < 10 → Q a = true → Q b = true → R a b = false
def pw_Chain (R : Nat → Nat → Bool) (Q : Nat → Bool) : Prop := ∀ a b, a < 10 → b < 10 → Q a = true → Q b = true → a ≠ b → (R a b = true ∨ R b a = true)
def pw_Width (R : Nat → Nat → Bool) (P : Nat → Bool) (w : Nat) : Prop := (∃ Q, pw_In Q P ∧ pw_Anti R Q ∧ pw_cn Q 10 = w) ∧ ∀ Q, pw_In Q P → pw_Anti R Q → pw_cn Q 10 ≤ w
def pw_Height (R : Nat → Nat → Bool) (P : Nat → Bool) (w : Nat) : Prop := (∃ Q, pw_In Q P ∧ pw_Chain R Q ∧ pw_cn Q 10 = w) ∧ ∀ Q, pw_In Q P → pw_Chain R Q → pw_cn Q 10 ≤ w
theorem pw_tf {b : Bool} (h : b = false) (h2 : b = true) : False := by rw [h] at h2; cases h2
theorem pw_Ord.no {R : Nat → Nat → Bool} (hO : pw_Ord R) {a b : Nat} (ha : a < 10) (hb : b < 10) (h : R a b = true) : R b a = false := by
  cases h2 : R b a with
  | false => rfl
  | true => exact (pw_tf (hO.1 a ha) (hO.2 a b a ha hb ha h h2)).elim
/-! ===== matchings ===== -/
def pw_MI (S : Nat → Bool) (R : Nat → Nat → Bool) (nx pv : Nat → Option Nat) : Prop :=
  (∀ u v, u < 10 → nx u = some v → v < 10 ∧ pv v = some u ∧ S u = true ∧ S v = true ∧ R u v = true) ∧ ∀ v u, v < 10 → pv v = some u → u < 10 ∧ nx u = some v
def pw_fr (S : Nat → Bool) (nx : Nat → Option Nat) : Nat → Bool := fun u => S u && (nx u).isNone
/-- no spread is larger than the number of chains -/
theorem pw_upper {S : Nat → Bool} {R : Nat → Nat → Bool} {nx pv : Nat → Option Nat} (hO : pw_Ord R) (hM : pw_MI S R nx pv) {Q : Nat → Bool} (hQS : pw_In Q S) (hQ : pw_Anti R Q) : pw_cn Q 10 ≤ pw_cn (pw_fr S nx) 10 := by
  obtain ⟨U, hU⟩ : ∃ U : Nat → Bool, ∀ v, U v = true ↔ (S v = true ∧ ∃ q, q < 10 ∧ Q q = true ∧ (q = v ∨ R q v = true)) := by
    refine ⟨fun v => S v && (List.range 10).any (fun q => Q q && (q == v || R q v)), fun v => ?_⟩
    simp [List.any_eq_true, Bool.and_eq_true, List.mem_range]
  have h1 := pw_cn_split U (fun u => (nx u).isNone) 10
  have h2 := pw_cn_split U Q 10
  have h3 : pw_cn Q 10 ≤ pw_cn (fun i => U i && Q i) 10 := pw_cn_mono 10 (fun i hi hq => by
    have : U i = true := (hU i).mpr ⟨hQS i hi hq, i, hi, hq, Or.inl rfl⟩
    simp [this, hq])
  have h4 : pw_cn (fun i => U i && (nx i).isNone) 10 ≤ pw_cn (pw_fr S nx) 10 := pw_cn_mono 10 (fun i hi hq => by
    simp only [Bool.and_eq_true] at hq
    simp only [pw_fr, Bool.and_eq_true]
    exact ⟨((hU i).mp hq.1).1, hq.2⟩)
  have h5 : pw_cn (fun i => U i && !(nx i).isNone) 10 ≤ pw_cn (fun i => U i && !Q i) 10 := by
    refine pw_cn_inj _ (fun u => (nx u).getD 0) 10 10 _ ?_ ?_
    · intro i hi hp
      simp only [Bool.and_eq_true] at hp
      obtain ⟨hu, hn⟩ := hp
      cases hv : nx i with
      | none => rw [hv] at hn; simp at hn
      | some v =>
        obtain ⟨g1, g2, g3, g4, g5⟩ := hM.1 i v hi hv
        obtain ⟨k1, q, hq1, hq2, hq3⟩ := (hU i).mp hu
        have hqv : R q v = true := by
          rcases hq3 with e | e
          · rw [e]; exact g5
          · exact hO.2 q i v hq1 hi g1 e g5
        refine ⟨g1, ?_⟩
        show (U v && !Q v) = true
        have hUv : U v = true := (hU v).mpr ⟨g4, q, hq1, hq2, Or.inr hqv⟩
        cases hQv : Q v with
        | false => simp [hUv]
        | true => exact (pw_tf (hQ q v hq1 g1 hq2 hQv) hqv).elim
    · intro i j hi hj hpi hpj e
      simp only [Bool.and_eq_true] at hpi hpj
      cases hvi : nx i with
      | none => rw [hvi] at hpi; simp at hpi
      | some v =>
        cases hvj : nx j with
        | none => rw [hvj] at hpj; simp at hpj
        | some w =>
          rw [hvi, hvj] at e
          have e2 : v = w := e
          have g1 := (hM.1 i v hi hvi).2.1
          have g2 := (hM.1 j w hj hvj).2.1
          rw [e2, g2] at g1
          exact (Option.some.inj g1).symm
  omega
/-- the closed things: all that comes behind them is taken by them -/
def pw_FI (S : Nat → Bool) (R : Nat → Nat → Bool) (pv : Nat → Option Nat) (L K : Nat → Prop) : Prop :=
  (∀ u, L u → u < 10 ∧ S u = true) ∧ (∀ u v, L u → v < 10 → S v = true → R u v = true → K v) ∧ ∀ v, K v → v < 10 ∧ ∃ u, pv v = some u ∧ L u
theorem pw_lower {S : Nat → Bool} {R : Nat → Nat → Bool} {nx pv : Nat → Option Nat} {L K : Nat → Prop} (hM : pw_MI S R nx pv) (hF : pw_FI S R pv L K) (hL : ∀ u, u < 10 → S u = true → nx u = none → L u) : ∃ A : Nat → Bool, pw_In A S ∧ pw_Anti R A ∧ pw_cn (pw_fr S nx) 10 ≤ pw_cn A 10 := by
  obtain ⟨hF1, hF2, hF3⟩ := hF
  obtain ⟨Lb, hLb⟩ : ∃ B : Nat → Bool, ∀ v, B v = true ↔ L v := ⟨fun v => @decide (L v) (Classical.propDecidable _), fun v => by simp⟩
  obtain ⟨Kb, hKb⟩ : ∃ B : Nat → Bool, ∀ v, B v = true ↔ K v := ⟨fun v => @decide (K v) (Classical.propDecidable _), fun v => by simp⟩
  refine ⟨fun v => Lb v && !Kb v, ?_, ?_, ?_⟩
  · intro a ha h
    simp only [Bool.and_eq_true] at h
    exact (hF1 a ((hLb a).mp h.1)).2
  · intro a b ha hb h1 h2
    simp only [Bool.and_eq_true] at h1 h2
    cases hr : R a b with
    | false => rfl
    | true =>
      have hLb2 := (hLb b).mp h2.1
      have hk : K b := hF2 a b ((hLb a).mp h1.1) hb (hF1 b hLb2).2 hr
      rw [(hKb b).mpr hk] at h2
      simp at h2
  · have h1 := pw_cn_split Lb (fun u => (nx u).isNone) 10
    have h2 := pw_cn_split Lb Kb 10
    have h3 : pw_cn (pw_fr S nx) 10 ≤ pw_cn (fun i => Lb i && (nx i).isNone) 10 := pw_cn_mono 10 (fun i hi hq => by
      simp only [pw_fr, Bool.and_eq_true] at hq
      have : Lb i = true := (hLb i).mpr (hL i hi hq.1 (by simpa using hq.2))
      simp [this, hq.2])
    have h4 : pw_cn (fun i => Lb i && Kb i) 10 ≤ pw_cn Kb 10 := pw_cn_mono 10 (fun i hi hq => by
      simp only [Bool.and_eq_true] at hq
      exact hq.2)
    have h5 : pw_cn Kb 10 ≤ pw_cn (fun i => Lb i && !(nx i).isNone) 10 := by
      refine pw_cn_inj _ (fun v => (pv v).getD 0) 10 10 _ ?_ ?_
      · intro i hi hp
        obtain ⟨-, u, hu, hLu⟩ := hF3 i ((hKb i).mp hp)
        obtain ⟨g1, g2⟩ := hM.2 i u hi hu
        show (pv i).getD 0 < 10 ∧ (Lb ((pv i).getD 0) && !(nx ((pv i).getD 0)).isNone) = true
        rw [hu]
        refine ⟨g1, ?_⟩
        show (Lb u && !(nx u).isNone) = true
        rw [(hLb u).mpr hLu, g2]
        rfl
      · intro i j hi hj hpi hpj e
        obtain ⟨-, u, hu, hLu⟩ := hF3 i ((hKb i).mp hpi)
        obtain ⟨-, w, hw, hLw⟩ := hF3 j ((hKb j).mp hpj)
        have e2 : (pv i).getD 0 = (pv j).getD 0 := e
        rw [hu, hw] at e2
        have e3 : u = w := e2
        have g1 := (hM.2 i u hi hu).2
        have g2 := (hM.2 j w hj hw).2
        rw [e3, g2] at g1
        exact (Option.some.inj g1).symm
    omega
/-- the fewest chains are as many as the greatest spread -/
theorem pw_dilworth {S : Nat → Bool} {R : Nat → Nat → Bool} {nx pv : Nat → Option Nat} {L K : Nat → Prop} (hO : pw_Ord R) (hM : pw_MI S R nx pv) (hF : pw_FI S R pv L K) (hL : ∀ u, u < 10 → S u = true → nx u = none → L u) : pw_Width R S (pw_cn (pw_fr S nx) 10) := by
  refine ⟨?_, fun Q h1 h2 => pw_upper hO hM h1 h2⟩
  obtain ⟨A, h1, h2, h3⟩ := pw_lower hM hF hL
  exact ⟨A, h1, h2, Nat.le_antisymm (pw_upper hO hM h1 h2) h3⟩
end
section
/-! ===== the search for a way, and its turning round ===== -/
/-- what is reached so far: the line of things (qu, qe) and for each reached thing the one it is reached from (rf) -/
def pw_BI (S : Nat → Bool) (R : Nat → Nat → Bool) (nx pv : Nat → Option Nat) (root : Nat) (rf : Nat → Option Nat) (qu : Nat → Nat) (qe : Nat) : Prop :=
  (qu 0 = root ∧ 1 ≤ qe ∧ nx root = none) ∧
  (∀ i, i < qe → qu i < 10 ∧ S (qu i) = true) ∧
  (∀ i j, i < qe → j < qe → qu i = qu j → i = j) ∧
  (∀ i, 1 ≤ i → i < qe → ∃ v, v < 10 ∧ rf v ≠ none ∧ nx (qu i) = some v) ∧
  (∀ v u, v < 10 → rf v = some u → S v = true ∧ R u v = true ∧ ∃ j i, j < i ∧ i < qe ∧ qu j = u ∧ pv v = some (qu i))
theorem pw_BI.start {S : Nat → Bool} {R : Nat → Nat → Bool} {nx pv : Nat → Option Nat} {root : Nat} {qu : Nat → Nat} (hr : root < 10) (hS : S root = true) (hn : nx root = none) (hq : qu 0 = root) : pw_BI S R nx pv root (fun _ => none) qu 1 := by
  refine ⟨⟨hq, Nat.le_refl 1, hn⟩, ?_, ?_, ?_, ?_⟩
  · intro i hi
    rw [show i = 0 by omega, hq]
    exact ⟨hr, hS⟩
  · intro i j hi hj _
    omega
  · intro i h1 h2
    omega
  · intro v u _ h
    cases h
theorem pw_BI.le {S : Nat → Bool} {R : Nat → Nat → Bool} {nx pv : Nat → Option Nat} {root : Nat} {rf : Nat → Option Nat} {qu : Nat → Nat} {qe : Nat} (h : pw_BI S R nx pv root rf qu qe) : qe ≤ 10 := by
  obtain ⟨-, h2, h3, -⟩ := h
  have h5 := pw_cn_inj (fun _ => true) qu qe 10 (fun _ => true) (fun i hi _ => ⟨(h2 i hi).1, rfl⟩) (fun i j hi hj _ _ e => h3 i j hi hj e)
  rw [pw_cn_all qe (fun _ _ => rfl)] at h5
  have h6 := pw_cn_le (fun _ => true) 10
  omega
theorem pw_BI.push {S : Nat → Bool} {R : Nat → Nat → Bool} {nx pv : Nat → Option Nat} {root : Nat} {rf : Nat → Option Nat} {qu : Nat → Nat} {qe k t w : Nat} (h : pw_BI S R nx pv root rf qu qe) (hM : pw_MI S R nx pv) (hk : k < qe) (ht : t < 10) (hrt : rf t = none) (hSt : S t = true) (hR : R (qu k) t = true) (hw : pv t = some w) : pw_BI S R nx pv root (pw_up rf t (some (qu k))) (pw_up qu qe w) (qe + 1) := by
  obtain ⟨⟨h0, h1, hn⟩, h2, h3, h4, h5⟩ := h
  obtain ⟨hw1, hw2⟩ := hM.2 t w ht hw
  have hw3 := hM.1 w t hw1 hw2
  have hne : ∀ i, i < qe → qu i ≠ w := by
    intro i hi e
    by_cases hi0 : i = 0
    · rw [hi0, h0] at e
      rw [← e, hn] at hw2
      cases hw2
    · obtain ⟨v, hv1, hv2, hv3⟩ := h4 i (by omega) hi
      rw [e, hw2] at hv3
      rw [← Option.some.inj hv3] at hv2
      exact hv2 hrt
  refine ⟨⟨by rw [pw_up_n _ _ (by omega)]; exact h0, by omega, hn⟩, ?_, ?_, ?_, ?_⟩
  · intro i hi
    by_cases e : i = qe
    · rw [e, pw_up_s]
      exact ⟨hw1, hw3.2.2.1⟩
    · rw [pw_up_n _ _ e]
      exact h2 i (by omega)
  · intro i j hi hj e
    by_cases ei : i = qe
    · by_cases ej : j = qe
      · omega
      · rw [ei, pw_up_s, pw_up_n _ _ ej] at e
        exact absurd e.symm (hne j (by omega))
    · by_cases ej : j = qe
      · rw [ej, pw_up_s, pw_up_n _ _ ei] at e
        exact absurd e (hne i (by omega))
      · rw [pw_up_n _ _ ei, pw_up_n _ _ ej] at e
        exact h3 i j (by omega) (by omega) e
  · intro i hi1 hi2
    by_cases e : i = qe
    · refine ⟨t, ht, by rw [pw_up_s]; simp, ?_⟩
      rw [e, pw_up_s]
      exact hw2
    · obtain ⟨v, hv1, hv2, hv3⟩ := h4 i hi1 (by omega)
      refine ⟨v, hv1, ?_, by rw [pw_up_n _ _ e]; exact hv3⟩
      by_cases e2 : v = t
      · rw [e2, pw_up_s]; simp
      · rw [pw_up_n _ _ e2]; exact hv2
  · intro v u hv hu
    by_cases e : v = t
    · rw [e, pw_up_s] at hu
      rw [← Option.some.inj hu, e]
      refine ⟨hSt, hR, k, qe, hk, by omega, by rw [pw_up_n _ _ (by omega)], by rw [pw_up_s]; exact hw⟩
    · rw [pw_up_n _ _ e] at hu
      obtain ⟨g1, g2, j, i, g3, g4, g5, g6⟩ := h5 v u hv hu
      refine ⟨g1, g2, j, i, g3, by omega, by rw [pw_up_n _ _ (by omega)]; exact g5, by rw [pw_up_n _ _ (by omega)]; exact g6⟩
/-- one thing is spread from: the line and the reached things grow -/
def pw_SP (S : Nat → Bool) (R : Nat → Nat → Bool) (nx pv : Nat → Option Nat) (root k thing : Nat) (rf0 : Nat → Option Nat) (qu0 : Nat → Nat) (qe0 t : Nat) (rf : Nat → Option Nat) (qu : Nat → Nat) (qe : Nat) : Prop :=
  pw_BI S R nx pv root rf qu qe ∧ (k < qe0 ∧ qu0 k = thing ∧ qe0 ≤ qe) ∧ (∀ i, i < qe0 → qu i = qu0 i) ∧ (∀ v, v < 10 → rf0 v ≠ none → rf v ≠ none) ∧ ∀ v, v < t → v < 10 → S v = true → R thing v = true → rf v ≠ none
theorem pw_SP.start {S : Nat → Bool} {R : Nat → Nat → Bool} {nx pv : Nat → Option Nat} {root k : Nat} {rf : Nat → Option Nat} {qu : Nat → Nat} {qe : Nat} (h : pw_BI S R nx pv root rf qu qe) (hk : k < qe) : pw_SP S R nx pv root k (qu k) rf qu qe 0 rf qu qe :=
  ⟨h, ⟨hk, rfl, Nat.le_refl _⟩, fun _ _ => rfl, fun _ _ h => h, fun v h => absurd h (by omega)⟩
theorem pw_SP.skip {S : Nat → Bool} {R : Nat → Nat → Bool} {nx pv : Nat → Option Nat} {root k thing : Nat} {rf0 : Nat → Option Nat} {qu0 : Nat → Nat} {qe0 t : Nat} {rf : Nat → Option Nat} {qu : Nat → Nat} {qe : Nat} (h : pw_SP S R nx pv root k thing rf0 qu0 qe0 t rf qu qe) (hs : S t = true → R thing t = true → rf t ≠ none) : pw_SP S R nx pv root k thing rf0 qu0 qe0 (t + 1) rf qu qe := by
  obtain ⟨h1, h2, h3, h4, h5⟩ := h
  refine ⟨h1, h2, h3, h4, fun v hv hv10 a b => ?_⟩
  by_cases e : v = t
  · rw [e] at a b ⊢; exact hs a b
  · exact h5 v (by omega) hv10 a b
theorem pw_SP.push {S : Nat → Bool} {R : Nat → Nat → Bool} {nx pv : Nat → Option Nat} {root k thing : Nat} {rf0 : Nat → Option Nat} {qu0 : Nat → Nat} {qe0 t w : Nat} {rf : Nat → Option Nat} {qu : Nat → Nat} {qe : Nat} (h : pw_SP S R nx pv root k thing rf0 qu0 qe0 t rf qu qe) (hM : pw_MI S R nx pv) (ht : t < 10) (hrt : rf t = none) (hSt : S t = true) (hR : R thing t = true) (hw : pv t = some w) : pw_SP S R nx pv root k thing rf0 qu0 qe0 (t + 1) (pw_up rf t (some thing)) (pw_up qu qe w) (qe + 1) ∧ qe < 10 := by
  obtain ⟨h1, ⟨h2, h2b, h2c⟩, h3, h4, h5⟩ := h
  have e : qu k = thing := (h3 k h2).trans h2b
  have hB := h1.push hM (k := k) (by omega) ht hrt hSt (by rw [e]; exact hR) hw
  rw [e] at hB
  have hle := hB.le
  refine ⟨⟨hB, ⟨h2, h2b, by omega⟩, fun i hi => by rw [pw_up_n _ _ (by omega)]; exact h3 i hi, fun v hv a => ?_, fun v hv hv10 a b => ?_⟩, by omega⟩
  · by_cases e2 : v = t
    · rw [e2, pw_up_s]; simp
    · rw [pw_up_n _ _ e2]; exact h4 v hv a
  · by_cases e2 : v = t
    · rw [e2, pw_up_s]; simp
    · rw [pw_up_n _ _ e2]; exact h5 v (by omega) hv10 a b
/-- the turning: at the thing v (or at the end), the ways before place jb are as they were -/
def pw_JI (S : Nat → Bool) (R : Nat → Nat → Bool) (nx pv : Nat → Option Nat) (v : Nat) : Prop :=
  (∀ u w, u < 10 → nx u = some w → w < 10 ∧ w ≠ v ∧ pv w = some u ∧ S u = true ∧ S w = true ∧ R u w = true) ∧ ∀ w u, w < 10 → w ≠ v → pv w = some u → u < 10 ∧ nx u = some w
def pw_Way (S : Nat → Bool) (R : Nat → Nat → Bool) (nx0 : Nat → Option Nat) (root : Nat) (rf : Nat → Option Nat) (qu : Nat → Nat) (qe : Nat) : Prop :=
  (qe ≤ 10 ∧ nx0 root = none ∧ root < 10) ∧ (∀ i, i < qe → qu i < 10 ∧ S (qu i) = true) ∧ (∀ i j, i < qe → j < qe → qu i = qu j → i = j) ∧
  ∀ j, j < qe → (j = 0 ∧ qu j = root) ∨ ∃ v1 j1, v1 < 10 ∧ nx0 (qu j) = some v1 ∧ j1 < j ∧ rf v1 = some (qu j1) ∧ S v1 = true ∧ R (qu j1) v1 = true
def pw_TI (S : Nat → Bool) (R : Nat → Nat → Bool) (L K : Nat → Prop) (root : Nat) (rf : Nat → Option Nat) (qu : Nat → Nat) (nx0 : Nat → Option Nat) (jb : Nat) (v : Option Nat) (nx pv : Nat → Option Nat) : Prop :=
  (∀ w, K w → ∃ u, pv w = some u ∧ L u) ∧ match v with
  | some v => v < 10 ∧ S v = true ∧ ¬ K v ∧ (∃ j, j < jb ∧ rf v = some (qu j) ∧ R (qu j) v = true) ∧ (∀ i, i < jb → nx (qu i) = nx0 (qu i)) ∧ pw_JI S R nx pv v ∧ ∀ u, u < 10 → (nx u).isNone = (nx0 u).isNone
  | none => pw_MI S R nx pv ∧ ∀ u, u < 10 → (nx u).isNone = ((nx0 u).isNone && !(u == root))
theorem pw_TI.step {S : Nat → Bool} {R : Nat → Nat → Bool} {L K : Nat → Prop} {root : Nat} {rf : Nat → Option Nat} {qu : Nat → Nat} {nx0 : Nat → Option Nat} {jb qe v : Nat} {nx pv : Nat → Option Nat} (hW : pw_Way S R nx0 root rf qu qe) (hL : ∀ u v, L u → v < 10 → S v = true → R u v = true → K v) (hjb : jb ≤ qe) (h : pw_TI S R L K root rf qu nx0 jb (some v) nx pv) : ∃ u j, v < 10 ∧ u < 10 ∧ rf v = some u ∧ j < jb ∧ (∀ x, nx u = some x → x < 10) ∧ pw_TI S R L K root rf qu nx0 j (nx u) (pw_up nx u (some v)) (pw_up pv v (some u)) := by
  obtain ⟨hF, hv, hSv, hKv, ⟨j, hj, hrf, hR⟩, hold, hJ, hnone⟩ := h
  obtain ⟨⟨hw1, hw2, hw3⟩, hw4, hw5, hw6⟩ := hW
  obtain ⟨hu, hSu⟩ := hw4 j (by omega)
  have hq := hold j hj
  have hLu : ¬ L (qu j) := fun hl => hKv (hL _ _ hl hv hSv hR)
  have hFn : ∀ w, K w → ∃ u, (pw_up pv v (some (qu j))) w = some u ∧ L u := fun w hKw => by
    rw [pw_up_n _ _ (fun e => hKv (by rw [← e]; exact hKw))]
    exact hF w hKw
  refine ⟨qu j, j, hv, hu, hrf, hj, fun x hx => (hJ.1 (qu j) x hu hx).1, ?_⟩
  cases hn : nx (qu j) with
  | none =>
    have hroot : qu j = root := by
      rcases hw6 j (by omega) with ⟨-, e⟩ | ⟨v1, j1, -, e, -⟩
      · exact e
      · rw [← hq, hn] at e; cases e
    refine ⟨hFn, ⟨?_, ?_⟩, ?_⟩
    · intro u' w hu' hw
      by_cases e : u' = qu j
      · rw [e, pw_up_s] at hw
        rw [← Option.some.inj hw, e, pw_up_s]
        exact ⟨hv, rfl, hSu, hSv, hR⟩
      · rw [pw_up_n _ _ e] at hw
        obtain ⟨g1, g2, g3, g4, g5, g6⟩ := hJ.1 u' w hu' hw
        rw [pw_up_n _ _ g2]
        exact ⟨g1, g3, g4, g5, g6⟩
    · intro w u' hw hu'
      by_cases e : w = v
      · rw [e, pw_up_s] at hu'
        rw [← Option.some.inj hu', e, pw_up_s]
        exact ⟨hu, rfl⟩
      · rw [pw_up_n _ _ e] at hu'
        obtain ⟨g1, g2⟩ := hJ.2 w u' hw e hu'
        have hne : u' ≠ qu j := fun e2 => by rw [e2, hn] at g2; cases g2
        rw [pw_up_n _ _ hne]
        exact ⟨g1, g2⟩
    · intro u' hu'
      by_cases e : u' = qu j
      · rw [e, pw_up_s, hroot]; simp
      · rw [pw_up_n _ _ e, hnone u' hu']
        have : (u' == root) = false := by rw [← hroot]; simp [e]
        simp [this]
  | some v1 =>
    obtain ⟨j1, hj1, hr1, hS1, hR1, hv1⟩ : ∃ j1, j1 < j ∧ rf v1 = some (qu j1) ∧ S v1 = true ∧ R (qu j1) v1 = true ∧ v1 < 10 := by
      rcases hw6 j (by omega) with ⟨-, e⟩ | ⟨v1', j1, g1, g2, g3, g4, g5, g6⟩
      · rw [e, hw2] at hq
        rw [e, hq] at hn
        cases hn
      · rw [← hq, hn] at g2
        have e := Option.some.inj g2
        exact ⟨j1, g3, by rw [e]; exact g4, by rw [e]; exact g5, by rw [e]; exact g6, by rw [e]; exact g1⟩
    obtain ⟨k1, k2, k3, k4, k5, k6⟩ := hJ.1 (qu j) v1 hu hn
    have hK1 : ¬ K v1 := fun hk => by
      obtain ⟨u2, hu2, hLu2⟩ := hF v1 hk
      rw [k3] at hu2
      exact hLu (by rw [Option.some.inj hu2]; exact hLu2)
    refine ⟨hFn, hv1, hS1, hK1, ⟨j1, hj1, hr1, hR1⟩, ?_, ⟨?_, ?_⟩, ?_⟩
    · intro i hi
      have hne : qu i ≠ qu j := fun e => by
        have := hw5 i j (by omega) (by omega) e
        omega
      rw [pw_up_n _ _ hne]
      exact hold i (by omega)
    · intro u' w hu' hw
      by_cases e : u' = qu j
      · rw [e, pw_up_s] at hw
        rw [← Option.some.inj hw, e, pw_up_s]
        exact ⟨hv, fun e2 => k2 e2.symm, rfl, hSu, hSv, hR⟩
      · rw [pw_up_n _ _ e] at hw
        obtain ⟨g1, g2, g3, g4, g5, g6⟩ := hJ.1 u' w hu' hw
        rw [pw_up_n _ _ g2]
        refine ⟨g1, fun e2 => ?_, g3, g4, g5, g6⟩
        rw [e2, k3] at g3
        exact e (Option.some.inj g3).symm
    · intro w u' hw hne hu'
      by_cases e : w = v
      · rw [e, pw_up_s] at hu'
        rw [← Option.some.inj hu', e, pw_up_s]
        exact ⟨hu, rfl⟩
      · rw [pw_up_n _ _ e] at hu'
        obtain ⟨g1, g2⟩ := hJ.2 w u' hw e hu'
        have hne2 : u' ≠ qu j := fun e2 => by
          rw [e2, hn] at g2
          exact hne (Option.some.inj g2).symm
        rw [pw_up_n _ _ hne2]
        exact ⟨g1, g2⟩
    · intro u' hu'
      by_cases e : u' = qu j
      · have hb := hnone (qu j) hu
        rw [hn] at hb
        rw [e, pw_up_s, ← hb]
        rfl
      · rw [pw_up_n _ _ e]; exact hnone u' hu'
/-- from the search to the turning: the thing t behind 'qu k' is free -/
theorem pw_BI.way {S : Nat → Bool} {R : Nat → Nat → Bool} {nx pv : Nat → Option Nat} {root : Nat} {rf : Nat → Option Nat} {qu : Nat → Nat} {qe k t : Nat} {L K : Nat → Prop} (h : pw_BI S R nx pv root rf qu qe) (hM : pw_MI S R nx pv) (hF : pw_FI S R pv L K) (hk : k < qe) (ht : t < 10) (hrt : rf t = none) (hSt : S t = true) (hR : R (qu k) t = true) (hw : pv t = none) : pw_Way S R nx root (pw_up rf t (some (qu k))) qu qe ∧ pw_TI S R L K root (pw_up rf t (some (qu k))) qu nx qe (some t) nx pv := by
  have hle := h.le
  obtain ⟨⟨h0, h1, hn⟩, h2, h3, h4, h5⟩ := h
  obtain ⟨hF1, hF2, hF3⟩ := hF
  refine ⟨⟨⟨hle, hn, by rw [← h0]; exact (h2 0 (by omega)).1⟩, h2, h3, ?_⟩, fun w hKw => (hF3 w hKw).2, ht, hSt, ?_, ⟨k, hk, by rw [pw_up_s], hR⟩, fun _ _ => rfl, ⟨?_, ?_⟩, fun _ _ => rfl⟩
  · intro j hj
    by_cases e : j = 0
    · exact Or.inl ⟨e, by rw [e]; exact h0⟩
    · obtain ⟨v1, g1, g2, g3⟩ := h4 j (by omega) hj
      cases hv : rf v1 with
      | none => exact absurd hv g2
      | some u1 =>
        obtain ⟨k1, k2, j1, i1, k3, k4, k5, k6⟩ := h5 v1 u1 g1 hv
        have k7 := (hM.1 (qu j) v1 (h2 j hj).1 g3).2.1
        rw [k6] at k7
        have k8 := h3 i1 j k4 hj (Option.some.inj k7)
        have hne : v1 ≠ t := fun e2 => g2 (by rw [e2]; exact hrt)
        refine Or.inr ⟨v1, j1, g1, g3, by omega, by rw [pw_up_n _ _ hne, hv, k5], k1, by rw [k5]; exact k2⟩
  · intro hKt
    obtain ⟨-, u, hu, -⟩ := hF3 t hKt
    rw [hw] at hu
    cases hu
  · intro u w hu hwn
    obtain ⟨g1, g2, g3, g4, g5⟩ := hM.1 u w hu hwn
    exact ⟨g1, fun e => (by rw [e, hw] at g2; cases g2), g2, g3, g4, g5⟩
  · intro w u hw' _ hu
    exact hM.2 w u hw' hu
/-- the search came to its end: what it reached is closed -/
theorem pw_BI.closed {S : Nat → Bool} {R : Nat → Nat → Bool} {nx pv : Nat → Option Nat} {root : Nat} {rf : Nat → Option Nat} {qu : Nat → Nat} {qe : Nat} {L K : Nat → Prop} (h : pw_BI S R nx pv root rf qu qe) (hF : pw_FI S R pv L K) (hall : ∀ i, i < qe → ∀ v, v < 10 → S v = true → R (qu i) v = true → rf v ≠ none) : pw_FI S R pv (fun u => L u ∨ ∃ i, i < qe ∧ qu i = u) (fun v => K v ∨ (v < 10 ∧ rf v ≠ none)) := by
  obtain ⟨-, h2, -, -, h5⟩ := h
  obtain ⟨hF1, hF2, hF3⟩ := hF
  refine ⟨?_, ?_, ?_⟩
  · rintro u (hu | ⟨i, hi, e⟩)
    · exact hF1 u hu
    · rw [← e]; exact h2 i hi
  · rintro u v (hu | ⟨i, hi, e⟩) hv hS hR
    · exact Or.inl (hF2 u v hu hv hS hR)
    · exact Or.inr ⟨hv, hall i hi v hv hS (by rw [e]; exact hR)⟩
  · rintro v (hv | ⟨hv, hr⟩)
    · obtain ⟨g1, u, g2, g3⟩ := hF3 v hv
      exact ⟨g1, u, g2, Or.inl g3⟩
    · refine ⟨hv, ?_⟩
      cases hu : rf v with
      | none => exact absurd hu hr
      | some u =>
        obtain ⟨-, -, j, i, -, k4, -, k6⟩ := h5 v u hv hu
        exact ⟨qu i, k6, Or.inr ⟨i, k4, rfl⟩⟩
/-- the loop over the things of the set: t things tried -/
def pw_WI (S : Nat → Bool) (R : Nat → Nat → Bool) (t : Nat) (nx pv : Nat → Option Nat) : Prop :=
  pw_MI S R nx pv ∧ (∀ u, u < 10 → t ≤ u → nx u = none) ∧ ∃ L K : Nat → Prop, pw_FI S R pv L K ∧ ∀ u, u < t → S u = true → nx u = none → L u
theorem pw_WI.start (S : Nat → Bool) (R : Nat → Nat → Bool) : pw_WI S R 0 (fun _ => none) (fun _ => none) := by
  refine ⟨⟨fun u v _ h => (by cases h), fun v u _ h => (by cases h)⟩, fun _ _ _ => rfl, fun _ => False, fun _ => False, ⟨fun _ h => h.elim, fun _ _ h => h.elim, fun _ h => h.elim⟩, fun u h => absurd h (by omega)⟩
theorem pw_WI.skip {S : Nat → Bool} {R : Nat → Nat → Bool} {t : Nat} {nx pv : Nat → Option Nat} (h : pw_WI S R t nx pv) (hs : S t = false) : pw_WI S R (t + 1) nx pv := by
  obtain ⟨h1, h2, L, K, h3, h4⟩ := h
  refine ⟨h1, fun u a b => h2 u a (by omega), L, K, h3, fun u hu hS hn => ?_⟩
  by_cases e : u = t
  · rw [e, hs] at hS; cases hS
  · exact h4 u (by omega) hS hn
/-- what lengthening a set's matching from t says: with a way the matching has one more, without the things are closed -/
def pw_LE (S : Nat → Bool) (R : Nat → Nat → Bool) (t : Nat) (nx pv : Nat → Option Nat) (b : Bool) (nx' pv' : Nat → Option Nat) : Prop :=
  pw_WI S R (t + 1) nx' pv' ∧ ∀ u, u < 10 → (nx' u).isNone = ((nx u).isNone && !(b && (u == t)))
theorem pw_LE.way {S : Nat → Bool} {R : Nat → Nat → Bool} {t jb : Nat} {nx pv nx' pv' : Nat → Option Nat} {L K : Nat → Prop} {rf : Nat → Option Nat} {qu : Nat → Nat} (h2 : ∀ u, u < 10 → t ≤ u → nx u = none) (h3 : pw_FI S R pv L K) (h4 : ∀ u, u < t → S u = true → nx u = none → L u) (ht : t < 10) (hT : pw_TI S R L K t rf qu nx jb none nx' pv') : pw_LE S R t nx pv true nx' pv' := by
  obtain ⟨hF, hM, hN⟩ := hT
  obtain ⟨hF1, hF2, hF3⟩ := h3
  have hN2 : ∀ u, u < 10 → (nx' u = none ↔ (nx u = none ∧ u ≠ t)) := fun u hu => by
    have := hN u hu
    constructor
    · intro e
      rw [e] at this
      simp at this
      exact ⟨by simpa using this.1, this.2⟩
    · rintro ⟨e1, e2⟩
      rw [e1, pw_ne e2] at this
      simpa using this
  refine ⟨⟨hM, fun u a b => (hN2 u a).mpr ⟨h2 u a (by omega), by omega⟩, L, K, ⟨hF1, hF2, fun v hv => ⟨(hF3 v hv).1, hF v hv⟩⟩, fun u hu hS hn => ?_⟩, fun u hu => ?_⟩
  · obtain ⟨e1, e2⟩ := (hN2 u (by omega)).mp hn
    exact h4 u (by omega) hS e1
  · rw [hN u hu]; simp
theorem pw_LE.shut {S : Nat → Bool} {R : Nat → Nat → Bool} {t : Nat} {nx pv : Nat → Option Nat} {rf : Nat → Option Nat} {qu : Nat → Nat} {qe : Nat} {L K : Nat → Prop} (hM : pw_MI S R nx pv) (h2 : ∀ u, u < 10 → t ≤ u → nx u = none) (h3 : pw_FI S R pv L K) (h4 : ∀ u, u < t → S u = true → nx u = none → L u) (hB : pw_BI S R nx pv t rf qu qe) (hall : ∀ i, i < qe → ∀ v, v < 10 → S v = true → R (qu i) v = true → rf v ≠ none) : pw_LE S R t nx pv false nx pv := by
  have hC := hB.closed h3 hall
  refine ⟨⟨hM, fun u a b => h2 u a (by omega), _, _, hC, fun u hu hS hn => ?_⟩, fun u hu => by simp⟩
  by_cases e : u = t
  · exact Or.inr ⟨0, by have := hB.1.2.1; omega, by rw [hB.1.1, e]⟩
  · exact Or.inl (h4 u (by omega) hS hn)
theorem pw_LE.count {S : Nat → Bool} {R : Nat → Nat → Bool} {t : Nat} {nx pv nx' pv' : Nat → Option Nat} {b : Bool} (hW : pw_WI S R t nx pv) (ht : t < 10) (hS : S t = true) (h : pw_LE S R t nx pv b nx' pv') : pw_cn (pw_fr S nx) 10 = pw_cn (pw_fr S nx') 10 + (if b = true then 1 else 0) := by
  cases b with
  | false =>
    simp
    refine pw_cn_congr 10 (fun i hi => ?_)
    have := h.2 i hi
    rw [Bool.false_and, Bool.not_false, Bool.and_true] at this
    show (S i && (nx i).isNone) = (S i && (nx' i).isNone)
    rw [this]
  | true =>
    have hn : nx t = none := hW.2.1 t ht (Nat.le_refl t)
    have e : pw_fr S nx t = true := by simp [pw_fr, hS, hn]
    rw [pw_cn_rem ht e, if_pos rfl]
    congr 1
    refine pw_cn_congr 10 (fun i hi => ?_)
    have := h.2 i hi
    rw [Bool.true_and] at this
    show ((S i && (nx i).isNone) && !(i == t)) = (S i && (nx' i).isNone)
    rw [this, Bool.and_assoc]
theorem pw_WI.width {S : Nat → Bool} {R : Nat → Nat → Bool} {nx pv : Nat → Option Nat} (hO : pw_Ord R) (h : pw_WI S R 10 nx pv) : pw_Width R S (pw_cn (pw_fr S nx) 10) := by
  obtain ⟨h1, -, L, K, h3, h4⟩ := h
  exact pw_dilworth hO h1 h3 h4
end
section
/-! ===== chains: layer by layer ===== -/
def pw_lay (R : Nat → Nat → Bool) (T : Nat → Bool) (t : Nat) : Bool := T t && !((List.range 10).any (fun u => R u t && T u))
theorem pw_lay_iff {R : Nat → Nat → Bool} {T : Nat → Bool} {t : Nat} : pw_lay R T t = true ↔ T t = true ∧ ∀ u, u < 10 → T u = true → R u t = false := by
  unfold pw_lay
  rw [Bool.and_eq_true, Bool.not_eq_true', List.any_eq_false]
  refine and_congr Iff.rfl ⟨fun h u hu hT => ?_, fun h u hu => ?_⟩
  · have := h u (List.mem_range.mpr hu)
    cases hr : R u t with
    | false => rfl
    | true => rw [hr, hT] at this; simp at this
  · have hu2 := List.mem_range.mp hu
    cases hT : T u with
    | false => simp
    | true => rw [h u hu2 hT]; simp
theorem pw_min {R : Nat → Nat → Bool} (hO : pw_Ord R) {T : Nat → Bool} : ∀ (n x : Nat), pw_cn (fun u => R u x && T u) 10 ≤ n → x < 10 → T x = true → ∃ y, y < 10 ∧ pw_lay R T y = true ∧ (y = x ∨ R y x = true) := by
  intro n
  induction n with
  | zero =>
    intro x h hx hT
    refine ⟨x, hx, pw_lay_iff.mpr ⟨hT, fun u hu hTu => ?_⟩, Or.inl rfl⟩
    cases hr : R u x with
    | false => rfl
    | true =>
      have := pw_cn_pos (P := fun u => R u x && T u) hu (by simp [hr, hTu])
      omega
  | succ n ih =>
    intro x h hx hT
    by_cases hz : pw_cn (fun u => R u x && T u) 10 = 0
    · obtain ⟨y, h1, h2, h3⟩ := ih x (by omega) hx hT
      exact ⟨y, h1, h2, h3⟩
    · obtain ⟨u, hu, hp⟩ := pw_cn_ex (P := fun u => R u x && T u) (n := 10) (by omega)
      rw [Bool.and_eq_true] at hp
      have hlt : pw_cn (fun w => R w u && T w) 10 < pw_cn (fun u => R u x && T u) 10 := by
        refine pw_cn_strict (k := u) (fun i hi hpi => ?_) hu ?_ ?_
        · rw [Bool.and_eq_true] at hpi ⊢
          exact ⟨hO.2 i u x hi hu hx hpi.1 hp.1, hpi.2⟩
        · simp [hO.1 u hu]
        · rw [Bool.and_eq_true]; exact hp
      obtain ⟨y, h1, h2, h3⟩ := ih u (by omega) hu hp.2
      refine ⟨y, h1, h2, Or.inr ?_⟩
      rcases h3 with e | e
      · rw [e]; exact hp.1
      · exact hO.2 y u x h1 hu hx e hp.1
/-- r rounds: st is settled, m layers -/
def pw_HI (R : Nat → Nat → Bool) (P : Nat → Bool) (r : Nat) (st : Nat → Bool) (m : Nat) : Prop :=
  pw_In st P ∧ (∀ C, pw_In C st → pw_Chain R C → pw_cn C 10 ≤ m) ∧ (∃ C, pw_In C st ∧ pw_Chain R C ∧ pw_cn C 10 = m) ∧ (∀ x, x < 10 → P x = true → st x = false → ∃ C, pw_In C st ∧ pw_Chain R C ∧ pw_cn C 10 = m ∧ ∀ c, c < 10 → C c = true → R c x = true) ∧ (r ≤ pw_cn st 10 ∨ pw_In P st)
theorem pw_Chain.nil (R : Nat → Nat → Bool) : pw_Chain R (fun _ => false) := fun a b _ _ h => by cases h
theorem pw_HI.start (R : Nat → Nat → Bool) (P : Nat → Bool) : pw_HI R P 0 (fun _ => false) 0 := by
  have h0 : pw_cn (fun _ => false) 10 = 0 := pw_cn_zero 10 (fun _ _ => rfl)
  refine ⟨fun a _ h => (by cases h), fun C hC _ => ?_, ⟨fun _ => false, fun a _ h => h, pw_Chain.nil R, h0⟩, fun x _ _ _ => ⟨fun _ => false, fun a _ h => h, pw_Chain.nil R, h0, fun c _ h => by cases h⟩, Or.inl (Nat.zero_le _)⟩
  rw [pw_cn_zero 10 (fun i hi => ?_)]
  · exact Nat.le_refl 0
  · cases hc : C i with
    | false => rfl
    | true => exact (pw_tf rfl (hC i hi hc)).elim
theorem pw_HI.keep {R : Nat → Nat → Bool} {P : Nat → Bool} {r : Nat} {st : Nat → Bool} {m : Nat} (hO : pw_Ord R) (h : pw_HI R P r st m) (hl : ∀ i, i < 10 → pw_lay R (fun i => P i && !st i) i = false) : pw_HI R P (r + 1) (fun i => st i || pw_lay R (fun i => P i && !st i) i) m := by
  obtain ⟨h1, h2, ⟨C0, h3, h3b, h3c⟩, h4, -⟩ := h
  have hPs : pw_In P st := fun x hx hP => by
    cases hs : st x with
    | true => rfl
    | false =>
      obtain ⟨y, hy, hly, -⟩ := pw_min hO (T := fun i => P i && !st i) _ x (Nat.le_refl _) hx (by simp [hP, hs])
      exact (pw_tf (hl y hy) hly).elim
  have e : ∀ i, i < 10 → (st i || pw_lay R (fun i => P i && !st i) i) = st i := fun i hi => by rw [hl i hi]; simp
  refine ⟨fun a ha hs => h1 a ha (by rw [← e a ha]; exact hs), fun C hC hc => h2 C (fun a ha hs => by rw [← e a ha]; exact hC a ha hs) hc, ⟨C0, fun a ha hs => (e a ha).trans (h3 a ha hs), h3b, h3c⟩, fun x hx hP hs => ?_, Or.inr (fun a ha hs => (e a ha).trans (hPs a ha hs))⟩
  exact (pw_tf ((e x hx).symm.trans hs) (hPs x hx hP)).elim
theorem pw_HI.more {R : Nat → Nat → Bool} {P : Nat → Bool} {r : Nat} {st : Nat → Bool} {m k : Nat} (hO : pw_Ord R) (h : pw_HI R P r st m) (hk : k < 10) (hlk : pw_lay R (fun i => P i && !st i) k = true) : pw_HI R P (r + 1) (fun i => st i || pw_lay R (fun i => P i && !st i) i) (m + 1) := by
  obtain ⟨h1, h2, -, h4, h5⟩ := h
  have hex : ∀ y, y < 10 → pw_lay R (fun i => P i && !st i) y = true → ∃ C, pw_In C (fun i => st i || pw_lay R (fun i => P i && !st i) i) ∧ pw_Chain R C ∧ pw_cn C 10 = m + 1 ∧ ∀ c, c < 10 → C c = true → (c = y ∨ R c y = true) := by
    intro y hy hly
    obtain ⟨g1, g2⟩ := pw_lay_iff.mp hly
    rw [Bool.and_eq_true, Bool.not_eq_true'] at g1
    obtain ⟨C, c1, c2, c3, c4⟩ := h4 y hy g1.1 g1.2
    have hCy : C y = false := by
      cases hc : C y with
      | false => rfl
      | true => exact (pw_tf g1.2 (c1 y hy hc)).elim
    refine ⟨fun i => C i || (i == y), fun a ha hs => ?_, fun a b ha hb hca hcb hne => ?_, by rw [pw_cn_add hy hCy, c3], fun c hc hs => ?_⟩
    · by_cases e : a = y
      · rw [e]; simp [hly]
      · simp [e] at hs; simp [c1 a ha hs]
    · by_cases ea : a = y
      · have eb : b ≠ y := fun e => hne (ea.trans e.symm)
        simp [eb] at hcb
        rw [ea]
        exact Or.inr (c4 b hb hcb)
      · simp [ea] at hca
        by_cases eb : b = y
        · rw [eb]; exact Or.inl (c4 a ha hca)
        · simp [eb] at hcb
          exact c2 a b ha hb hca hcb hne
    · by_cases e : c = y
      · exact Or.inl e
      · simp [e] at hs; exact Or.inr (c4 c hc hs)
  refine ⟨fun a ha hs => ?_, fun C hC hc => ?_, ?_, fun x hx hP hs => ?_, ?_⟩
  · rw [Bool.or_eq_true] at hs
    rcases hs with q | q
    · exact h1 a ha q
    · have := (pw_lay_iff.mp q).1
      rw [Bool.and_eq_true] at this
      exact this.1
  · have s1 := pw_cn_split C st 10
    have s2 : pw_cn (fun i => C i && st i) 10 ≤ m := h2 _ (fun a ha hs => by
      rw [Bool.and_eq_true] at hs; exact hs.2) (fun a b ha hb hca hcb hne => by
      rw [Bool.and_eq_true] at hca hcb
      exact hc a b ha hb hca.1 hcb.1 hne)
    have s3 : pw_cn (fun i => C i && !st i) 10 ≤ 1 := by
      by_cases hz : pw_cn (fun i => C i && !st i) 10 = 0
      · omega
      · obtain ⟨a, ha, hp⟩ := pw_cn_ex (P := fun i => C i && !st i) (n := 10) (by omega)
        rw [pw_cn_rem ha hp, pw_cn_zero 10 (fun b hb => ?_)]
        · exact Nat.le_refl _
        · cases hq : (C b && !st b) && !(b == a) with
          | false => rfl
          | true =>
            exfalso
            rw [Bool.and_eq_true, Bool.and_eq_true] at hq
            rw [Bool.and_eq_true] at hp
            obtain ⟨⟨q1, q2⟩, q3⟩ := hq
            have hne : b ≠ a := by simpa using q3
            rw [Bool.not_eq_true'] at q2
            have hp2 := hp.2
            rw [Bool.not_eq_true'] at hp2
            have la : pw_lay R (fun i => P i && !st i) a = true := by
              have := hC a ha hp.1
              rw [Bool.or_eq_true] at this
              rcases this with z | z
              · exact (pw_tf hp2 z).elim
              · exact z
            have lb : pw_lay R (fun i => P i && !st i) b = true := by
              have := hC b hb q1
              rw [Bool.or_eq_true] at this
              rcases this with z | z
              · exact (pw_tf q2 z).elim
              · exact z
            obtain ⟨a1, a2⟩ := pw_lay_iff.mp la
            obtain ⟨b1, b2⟩ := pw_lay_iff.mp lb
            rcases hc b a hb ha q1 hp.1 hne with z | z
            · exact pw_tf (a2 b hb b1) z
            · exact pw_tf (b2 a ha a1) z
    omega
  · obtain ⟨C, c1, c2, c3, -⟩ := hex k hk hlk
    exact ⟨C, c1, c2, c3⟩
  · rw [Bool.or_eq_false_iff] at hs
    obtain ⟨y, hy, hly, hyx⟩ := pw_min hO (T := fun i => P i && !st i) _ x (Nat.le_refl _) hx (by simp [hP, hs.1])
    have hyx2 : R y x = true := by
      rcases hyx with e | e
      · rw [e] at hly; exact (pw_tf hs.2 hly).elim
      · exact e
    obtain ⟨C, c1, c2, c3, c4⟩ := hex y hy hly
    refine ⟨C, c1, c2, c3, fun c hc hcc => ?_⟩
    rcases c4 c hc hcc with e | e
    · rw [e]; exact hyx2
    · exact hO.2 c y x hc hy hx e hyx2
  · rcases h5 with q | q
    · refine Or.inl ?_
      have g1 := (pw_lay_iff.mp hlk).1
      rw [Bool.and_eq_true, Bool.not_eq_true'] at g1
      have := pw_cn_strict (P := st) (Q := fun i => st i || pw_lay R (fun i => P i && !st i) i) (k := k) (n := 10) (fun i _ h => by simp [h]) hk g1.2 (by simp [hlk])
      omega
    · exact Or.inr (fun a ha hs => by simp [q a ha hs])
theorem pw_HI.height {R : Nat → Nat → Bool} {P : Nat → Bool} {st : Nat → Bool} {m : Nat} (h : pw_HI R P 10 st m) : pw_Height R P m := by
  obtain ⟨h1, h2, ⟨C0, h3, h3b, h3c⟩, -, h5⟩ := h
  have hPs : pw_In P st := by
    rcases h5 with q | q
    · exact fun a ha _ => pw_cn_full q a ha
    · exact q
  exact ⟨⟨C0, fun a ha hs => h1 a ha (h3 a ha hs), h3b, h3c⟩, fun C hC hc => h2 C (fun a ha hs => hPs a ha (hC a ha hs)) hc⟩
theorem pw_Height.le {R : Nat → Nat → Bool} {P : Nat → Bool} {m : Nat} (h : pw_Height R P m) : m ≤ 10 := by
  obtain ⟨⟨C, -, -, e⟩, -⟩ := h
  rw [← e]; exact pw_cn_le C 10
theorem pw_Width.le {R : Nat → Nat → Bool} {P : Nat → Bool} {m : Nat} (h : pw_Width R P m) : m ≤ 10 := by
  obtain ⟨⟨C, -, -, e⟩, -⟩ := h
  rw [← e]; exact pw_cn_le C 10
/-- chains with a thing t in them -/
def pw_HW (R : Nat → Nat → Bool) (t w : Nat) : Prop := (∃ C, pw_Chain R C ∧ C t = true ∧ pw_cn C 10 = w) ∧ ∀ C, pw_Chain R C → C t = true → pw_cn C 10 ≤ w
theorem pw_HW.of {R : Nat → Nat → Bool} {t a b : Nat} (hO : pw_Ord R) (ht : t < 10) (h1 : pw_Height R (fun u => R u t) a) (h2 : pw_Height R (fun u => R t u) b) : pw_HW R t (a + 1 + b) := by
  obtain ⟨⟨C1, x1, x2, x3⟩, x4⟩ := h1
  obtain ⟨⟨C2, y1, y2, y3⟩, y4⟩ := h2
  have n1 : C1 t = false := by
    cases hc : C1 t with
    | false => rfl
    | true => exact (pw_tf (hO.1 t ht) (x1 t ht hc)).elim
  have n2 : C2 t = false := by
    cases hc : C2 t with
    | false => rfl
    | true => exact (pw_tf (hO.1 t ht) (y1 t ht hc)).elim
  constructor
  · refine ⟨fun i => C1 i || ((i == t) || C2 i), fun p q hp hq hcp hcq hne => ?_, by simp, ?_⟩
    · rw [Bool.or_eq_true, Bool.or_eq_true] at hcp hcq
      rcases hcp with p1 | p1 | p1 <;> rcases hcq with q1 | q1 | q1
      · exact x2 p q hp hq p1 q1 hne
      · have e : q = t := by simpa using q1
        rw [e]; exact Or.inl (x1 p hp p1)
      · exact Or.inl (hO.2 p t q hp ht hq (x1 p hp p1) (y1 q hq q1))
      · have e : p = t := by simpa using p1
        rw [e]; exact Or.inr (x1 q hq q1)
      · have e : q = t := by simpa using q1
        have e2 : p = t := by simpa using p1
        exact absurd (e2.trans e.symm) hne
      · have e : p = t := by simpa using p1
        rw [e]; exact Or.inl (y1 q hq q1)
      · exact Or.inr (hO.2 q t p hq ht hp (x1 q hq q1) (y1 p hp p1))
      · have e : q = t := by simpa using q1
        rw [e]; exact Or.inr (y1 p hp p1)
      · exact y2 p q hp hq p1 q1 hne
    · rw [pw_cn_split _ (fun i => R i t) 10]
      have e1 : pw_cn (fun i => (C1 i || ((i == t) || C2 i)) && R i t) 10 = a := by
        rw [← x3]
        refine pw_cn_congr 10 (fun i hi => ?_)
        cases hc : C1 i with
        | true => have := x1 i hi hc; simp at this; simp [this]
        | false =>
          by_cases e : i = t
          · subst e; simp [hO.1 i hi]
          · cases hc2 : C2 i with
            | false => simp [e]
            | true => simp [hO.no ht hi (y1 i hi hc2)]
      have e2 : pw_cn (fun i => (C1 i || ((i == t) || C2 i)) && !R i t) 10 = b + 1 := by
        rw [pw_cn_rem ht (by simp [hO.1 t ht]), ← y3]
        congr 1
        refine pw_cn_congr 10 (fun i hi => ?_)
        by_cases e : i = t
        · subst e; simp [n2]
        · cases hc : C1 i with
          | true =>
            have h9 : R i t = true := x1 i hi hc
            cases hc2 : C2 i with
            | false => simp [h9]
            | true => exact (pw_tf (hO.no hi ht h9) (y1 i hi hc2)).elim
          | false =>
            cases hc2 : C2 i with
            | false => simp [e]
            | true => simp [e, hO.no ht hi (y1 i hi hc2)]
      rw [e1, e2]; omega
  · intro C hC hCt
    have s1 := pw_cn_split C (fun i => R i t) 10
    have s2 : pw_cn (fun i => C i && R i t) 10 ≤ a := x4 _ (fun i hi hs => by rw [Bool.and_eq_true] at hs; exact hs.2) (fun p q hp hq hcp hcq hne => by
      rw [Bool.and_eq_true] at hcp hcq
      exact hC p q hp hq hcp.1 hcq.1 hne)
    have s3 : pw_cn (fun i => C i && !R i t) 10 ≤ b + 1 := by
      rw [pw_cn_rem ht (by simp [hCt, hO.1 t ht])]
      have : pw_cn (fun i => (C i && !R i t) && !(i == t)) 10 ≤ b := by
        refine y4 _ (fun i hi hs => ?_) (fun p q hp hq hcp hcq hne => ?_)
        · rw [Bool.and_eq_true, Bool.and_eq_true] at hs
          obtain ⟨⟨g1, g2⟩, g3⟩ := hs
          rw [Bool.not_eq_true'] at g2
          rcases hC i t hi ht g1 hCt (by simpa using g3) with z | z
          · exact (pw_tf g2 z).elim
          · exact z
        · rw [Bool.and_eq_true, Bool.and_eq_true] at hcp hcq
          exact hC p q hp hq hcp.1.1 hcq.1.1 hne
      omega
    omega
theorem pw_HW.le {R : Nat → Nat → Bool} {t w : Nat} (h : pw_HW R t w) : w ≤ 10 := by
  obtain ⟨⟨C, -, -, e⟩, -⟩ := h
  rw [← e]; exact pw_cn_le C 10
/-- the greatest of the first t things' heights -/
def pw_GI (R : Nat → Nat → Bool) (t m : Nat) : Prop := (∀ C, pw_Chain R C → ∀ u, u < t → u < 10 → C u = true → pw_cn C 10 ≤ m) ∧ ∃ C, pw_Chain R C ∧ pw_cn C 10 = m
theorem pw_GI.start (R : Nat → Nat → Bool) : pw_GI R 0 0 := ⟨fun _ _ u h => absurd h (by omega), fun _ => false, pw_Chain.nil R, pw_cn_zero 10 (fun _ _ => rfl)⟩
theorem pw_GI.keep {R : Nat → Nat → Bool} {t m w : Nat} (h : pw_GI R t m) (hw : pw_HW R t w) (hle : w ≤ m) : pw_GI R (t + 1) m := by
  refine ⟨fun C hC u hu hu10 hcu => ?_, h.2⟩
  by_cases e : u = t
  · rw [e] at hcu; exact Nat.le_trans (hw.2 C hC hcu) hle
  · exact h.1 C hC u (by omega) hu10 hcu
theorem pw_GI.more {R : Nat → Nat → Bool} {t m w : Nat} (h : pw_GI R t m) (hw : pw_HW R t w) (hle : m ≤ w) : pw_GI R (t + 1) w := by
  obtain ⟨C0, c1, c2, c3⟩ := hw.1
  refine ⟨fun C hC u hu hu10 hcu => ?_, C0, c1, c3⟩
  by_cases e : u = t
  · rw [e] at hcu; exact hw.2 C hC hcu
  · exact Nat.le_trans (h.1 C hC u (by omega) hu10 hcu) hle
theorem pw_GI.le {R : Nat → Nat → Bool} {t m : Nat} (h : pw_GI R t m) : m ≤ 10 := by
  obtain ⟨-, C, -, e⟩ := h
  rw [← e]; exact pw_cn_le C 10
theorem pw_GI.height {R : Nat → Nat → Bool} {m : Nat} (h : pw_GI R 10 m) : pw_Height R (fun _ => true) m := by
  obtain ⟨h1, C0, c1, c2⟩ := h
  refine ⟨⟨C0, fun _ _ _ => rfl, c1, c2⟩, fun C _ hC => ?_⟩
  by_cases hz : pw_cn C 10 = 0
  · omega
  · obtain ⟨u, hu, hcu⟩ := pw_cn_ex (P := C) (n := 10) (by omega)
    exact h1 C hC u hu hu hcu
end
section
/-! ===== the reference: every set is tried ===== -/
def pw_Fit (R : Nat → Nat → Bool) (ch : Bool) (Q : Nat → Bool) : Prop := ∀ a b, a < 10 → b < a → Q a = true → Q b = true → (R a b || R b a) = ch
theorem pw_Fit.anti {R : Nat → Nat → Bool} (hO : pw_Ord R) {Q : Nat → Bool} : pw_Fit R false Q ↔ pw_Anti R Q := by
  constructor
  · intro h a b ha hb hqa hqb
    rcases Nat.lt_trichotomy a b with q | q | q
    · have := h b a hb q hqb hqa
      rw [Bool.or_eq_false_iff] at this
      exact this.2
    · rw [q]; exact hO.1 b hb
    · have := h a b ha q hqa hqb
      rw [Bool.or_eq_false_iff] at this
      exact this.1
  · intro h a b ha hb hqa hqb
    rw [h a b ha (by omega) hqa hqb, h b a (by omega) ha hqb hqa]
    rfl
theorem pw_Fit.chain {R : Nat → Nat → Bool} {Q : Nat → Bool} : pw_Fit R true Q ↔ pw_Chain R Q := by
  constructor
  · intro h a b ha hb hqa hqb hne
    rcases Nat.lt_trichotomy a b with q | q | q
    · have := h b a hb q hqb hqa
      rw [Bool.or_eq_true] at this
      exact this.symm
    · exact absurd q hne
    · have := h a b ha q hqa hqb
      rw [Bool.or_eq_true] at this
      exact this
  · intro h a b ha hb hqa hqb
    rw [Bool.or_eq_true]
    exact h a b ha (by omega) hqa hqb (by omega)
theorem pw_Fit.congr {R : Nat → Nat → Bool} {ch : Bool} {P Q : Nat → Bool} (e : ∀ i, i < 10 → P i = Q i) (h : pw_Fit R ch P) : pw_Fit R ch Q := fun a b ha hb hqa hqb => h a b ha hb (by rw [e a ha]; exact hqa) (by rw [e b (by omega)]; exact hqb)
def pw_tb (k : Nat) : Nat → Bool := fun i => k.testBit i
def pw_ok (R : Nat → Nat → Bool) (I O : Nat → Bool) (ch : Bool) (k : Nat) : Prop := (∀ i, i < 10 → I i = true → pw_tb k i = true) ∧ (∀ i, i < 10 → O i = true → pw_tb k i = false) ∧ pw_Fit R ch (pw_tb k)
def pw_Best (R : Nat → Nat → Bool) (I O : Nat → Bool) (ch : Bool) (n j : Nat) : Prop := j < n ∧ pw_ok R I O ch j ∧ ∀ k, k < n → pw_ok R I O ch k → pw_cn (pw_tb k) 10 ≤ pw_cn (pw_tb j) 10 ∧ (pw_cn (pw_tb k) 10 = pw_cn (pw_tb j) 10 → j ≤ k)
def pw_GB (R : Nat → Nat → Bool) (I O : Nat → Bool) (ch : Bool) (n : Nat) (o : Option Nat) : Prop := match o with
  | none => ∀ k, k < n → ¬ pw_ok R I O ch k
  | some j => pw_Best R I O ch n j
theorem pw_GB.start (R : Nat → Nat → Bool) (I O : Nat → Bool) (ch : Bool) : pw_GB R I O ch 0 none := fun k h => absurd h (by omega)
theorem pw_GB.no {R : Nat → Nat → Bool} {I O : Nat → Bool} {ch : Bool} {n : Nat} {o : Option Nat} (h : pw_GB R I O ch n o) (hn : ¬ pw_ok R I O ch n) : pw_GB R I O ch (n + 1) o := by
  cases o with
  | none =>
    intro k hk hok
    by_cases e : k = n
    · rw [e] at hok; exact hn hok
    · exact h k (by omega) hok
  | some j =>
    obtain ⟨h1, h2, h3⟩ := h
    refine ⟨by omega, h2, fun k hk hok => ?_⟩
    by_cases e : k = n
    · rw [e] at hok; exact absurd hok hn
    · exact h3 k (by omega) hok
theorem pw_GB.first {R : Nat → Nat → Bool} {I O : Nat → Bool} {ch : Bool} {n : Nat} (h : pw_GB R I O ch n none) (hn : pw_ok R I O ch n) : pw_GB R I O ch (n + 1) (some n) := by
  refine ⟨by omega, hn, fun k hk hok => ?_⟩
  by_cases e : k = n
  · rw [e]; exact ⟨Nat.le_refl _, fun _ => Nat.le_refl _⟩
  · exact absurd hok (h k (by omega))
theorem pw_GB.more {R : Nat → Nat → Bool} {I O : Nat → Bool} {ch : Bool} {n j : Nat} (h : pw_GB R I O ch n (some j)) (hn : pw_ok R I O ch n) (hc : pw_cn (pw_tb j) 10 < pw_cn (pw_tb n) 10) : pw_GB R I O ch (n + 1) (some n) := by
  obtain ⟨h1, h2, h3⟩ := h
  refine ⟨by omega, hn, fun k hk hok => ?_⟩
  by_cases e : k = n
  · rw [e]; exact ⟨Nat.le_refl _, fun _ => Nat.le_refl _⟩
  · have := h3 k (by omega) hok
    exact ⟨by omega, fun e2 => by omega⟩
theorem pw_GB.less {R : Nat → Nat → Bool} {I O : Nat → Bool} {ch : Bool} {n j : Nat} (h : pw_GB R I O ch n (some j)) (hc : pw_cn (pw_tb n) 10 ≤ pw_cn (pw_tb j) 10) : pw_GB R I O ch (n + 1) (some j) := by
  obtain ⟨h1, h2, h3⟩ := h
  refine ⟨by omega, h2, fun k hk hok => ?_⟩
  by_cases e : k = n
  · rw [e]; exact ⟨hc, fun _ => by omega⟩
  · exact h3 k (by omega) hok
/-- any set is among those tried -/
theorem pw_num (Q : Nat → Bool) : ∃ k, k < 1024 ∧ k = pw_mk Q 10 ∧ ∀ i, i < 10 → pw_tb k i = Q i := by
  refine ⟨pw_mk Q 10, pw_mk_lt Q 10, rfl, fun i hi => ?_⟩
  show (pw_mk Q 10).testBit i = Q i
  rw [pw_mk_bit]
  simp [hi]
theorem pw_Best.all {R : Nat → Nat → Bool} {I O : Nat → Bool} {ch : Bool} {j : Nat} (h : pw_Best R I O ch 1024 j) {Q : Nat → Bool} (hI : ∀ i, i < 10 → I i = true → Q i = true) (hOut : ∀ i, i < 10 → O i = true → Q i = false) (hF : pw_Fit R ch Q) : pw_cn Q 10 ≤ pw_cn (pw_tb j) 10 ∧ (pw_cn Q 10 = pw_cn (pw_tb j) 10 → j ≤ pw_mk Q 10) := by
  obtain ⟨k, h1, h2, h3⟩ := pw_num Q
  have h4 := h.2.2 k h1 ⟨fun i hi hs => (h3 i hi).trans (hI i hi hs), fun i hi hs => (h3 i hi).trans (hOut i hi hs), hF.congr (fun i hi => (h3 i hi).symm)⟩
  rw [pw_cn_congr 10 h3] at h4
  rw [← h2]
  exact h4
theorem pw_Best.uniq {R : Nat → Nat → Bool} {I O : Nat → Bool} {ch : Bool} {o : Option Nat} (h : pw_GB R I O ch 1024 o) {Q : Nat → Bool} (hI : ∀ i, i < 10 → I i = true → Q i = true) (hOut : ∀ i, i < 10 → O i = true → Q i = false) (hF : pw_Fit R ch Q) : ∃ j, o = some j ∧ pw_Best R I O ch 1024 j := by
  cases o with
  | some j => exact ⟨j, rfl, h⟩
  | none =>
    obtain ⟨k, h1, h2, h3⟩ := pw_num Q
    exact absurd ⟨fun i hi hs => (h3 i hi).trans (hI i hi hs), fun i hi hs => (h3 i hi).trans (hOut i hi hs), hF.congr (fun i hi => (h3 i hi).symm)⟩ (h k h1)
/-- the size of the best set, as the reference answers it -/
def pw_Sz (R : Nat → Nat → Bool) (I O : Nat → Bool) (ch : Bool) (w : Nat) : Prop := ∃ o, pw_GB R I O ch 1024 o ∧ w = match o with
  | none => 0
  | some j => pw_cn (pw_tb j) 10
theorem pw_Sz.le {R : Nat → Nat → Bool} {I O : Nat → Bool} {ch : Bool} {w : Nat} (h : pw_Sz R I O ch w) : w ≤ 10 := by
  obtain ⟨o, -, e⟩ := h
  cases o with
  | none => rw [e]; exact Nat.zero_le _
  | some j => rw [e]; exact pw_cn_le _ 10
theorem pw_Sz.width {R : Nat → Nat → Bool} {P O : Nat → Bool} {w w2 : Nat} (hO : pw_Ord R) (hP : ∀ i, i < 10 → P i = !O i) (h1 : pw_Width R P w) (h2 : pw_Sz R (fun _ => false) O false w2) : w = w2 := by
  obtain ⟨o, hg, e⟩ := h2
  obtain ⟨⟨Q, q1, q2, q3⟩, q4⟩ := h1
  have hout : ∀ i, i < 10 → O i = true → Q i = false := fun i hi ho => by
    cases hq : Q i with
    | false => rfl
    | true => have := q1 i hi hq; rw [hP i hi, ho] at this; cases this
  obtain ⟨j, rfl, hb⟩ := pw_Best.uniq hg (Q := Q) (fun i _ h => by cases h) hout ((pw_Fit.anti hO).mpr q2)
  have g1 := (hb.all (Q := Q) (fun i _ h => by cases h) hout ((pw_Fit.anti hO).mpr q2)).1
  have g2 := q4 (pw_tb j) (fun i hi hs => by
    rw [hP i hi]
    cases ho : O i with
    | false => rfl
    | true => exact (pw_tf (hb.2.1.2.1 i hi ho) hs).elim) ((pw_Fit.anti hO).mp hb.2.1.2.2)
  have e2 : w2 = pw_cn (pw_tb j) 10 := e
  omega
theorem pw_Sz.height {R : Nat → Nat → Bool} {w w2 : Nat} (h1 : pw_Height R (fun _ => true) w) (h2 : pw_Sz R (fun _ => false) (fun _ => false) true w2) : w = w2 := by
  obtain ⟨o, hg, e⟩ := h2
  obtain ⟨⟨Q, q1, q2, q3⟩, q4⟩ := h1
  obtain ⟨j, rfl, hb⟩ := pw_Best.uniq hg (Q := Q) (fun i _ h => by cases h) (fun i _ h => by cases h) (pw_Fit.chain.mpr q2)
  have g1 := (hb.all (Q := Q) (fun i _ h => by cases h) (fun i _ h => by cases h) (pw_Fit.chain.mpr q2)).1
  have g2 := q4 (pw_tb j) (fun i hi hs => rfl) (pw_Fit.chain.mp hb.2.1.2.2)
  have e2 : w2 = pw_cn (pw_tb j) 10 := e
  omega
theorem pw_Sz.hw {R : Nat → Nat → Bool} {t w w2 : Nat} (ht : t < 10) (h1 : pw_HW R t w) (h2 : pw_Sz R (fun i => i == t) (fun _ => false) true w2) : w = w2 := by
  obtain ⟨o, hg, e⟩ := h2
  obtain ⟨⟨Q, q2, q1, q3⟩, q4⟩ := h1
  have hin : ∀ i, i < 10 → (i == t) = true → Q i = true := fun i _ h => by
    rw [show i = t by simpa using h]; exact q1
  obtain ⟨j, rfl, hb⟩ := pw_Best.uniq hg (Q := Q) hin (fun i _ h => by cases h) (pw_Fit.chain.mpr q2)
  have g1 := (hb.all (Q := Q) hin (fun i _ h => by cases h) (pw_Fit.chain.mpr q2)).1
  have g2 := q4 (pw_tb j) (pw_Fit.chain.mp hb.2.1.2.2) (hb.2.1.1 t ht (by simp))
  have e2 : w2 = pw_cn (pw_tb j) 10 := e
  omega
/-- the things that can't be compared with t -/
def pw_bes (R : Nat → Nat → Bool) (t : Nat) : Nat → Bool := fun i => !((R t i || R i t) || (i == t))
theorem pw_bes_iff {R : Nat → Nat → Bool} {t i : Nat} : pw_bes R t i = true ↔ R t i = false ∧ R i t = false ∧ i ≠ t := by
  unfold pw_bes
  rw [Bool.not_eq_true', Bool.or_eq_false_iff, Bool.or_eq_false_iff]
  simp [and_assoc]
theorem pw_Sz.with {R : Nat → Nat → Bool} {t w w2 : Nat} (hO : pw_Ord R) (ht : t < 10) (h1 : pw_Width R (pw_bes R t) w) (h2 : pw_Sz R (fun i => i == t) (fun _ => false) false w2) : 1 + w = w2 := by
  obtain ⟨o, hg, e⟩ := h2
  obtain ⟨⟨Q, q1, q2, q3⟩, q4⟩ := h1
  have hQt : Q t = false := by
    cases hq : Q t with
    | false => rfl
    | true => exact absurd rfl (pw_bes_iff.mp (q1 t ht hq)).2.2
  have hF : pw_Fit R false (fun i => Q i || (i == t)) := (pw_Fit.anti hO).mpr (fun a b ha hb hca hcb => by
    by_cases ea : a = t
    · by_cases eb : b = t
      · rw [ea, eb]; exact hO.1 t ht
      · simp [eb] at hcb
        rw [ea]; exact (pw_bes_iff.mp (q1 b hb hcb)).1
    · simp [ea] at hca
      by_cases eb : b = t
      · rw [eb]; exact (pw_bes_iff.mp (q1 a ha hca)).2.1
      · simp [eb] at hcb
        exact q2 a b ha hb hca hcb)
  have hin : ∀ i, i < 10 → (i == t) = true → (Q i || (i == t)) = true := fun i _ h => by simp [h]
  obtain ⟨j, rfl, hb⟩ := pw_Best.uniq hg (Q := fun i => Q i || (i == t)) hin (fun i _ h => by cases h) hF
  have g1 := (hb.all (Q := fun i => Q i || (i == t)) hin (fun i _ h => by cases h) hF).1
  rw [pw_cn_add ht hQt] at g1
  have hjt : pw_tb j t = true := hb.2.1.1 t ht (by simp)
  have hA := (pw_Fit.anti hO).mp hb.2.1.2.2
  have g2 := q4 (fun i => pw_tb j i && !(i == t)) (fun i hi hs => by
    rw [Bool.and_eq_true] at hs
    exact pw_bes_iff.mpr ⟨hA t i ht hi hjt hs.1, hA i t hi ht hs.1 hjt, by simpa using hs.2⟩) (fun a b ha hb2 hca hcb => by
    rw [Bool.and_eq_true] at hca hcb
    exact hA a b ha hb2 hca.1 hcb.1)
  have g3 := pw_cn_rem (P := pw_tb j) ht hjt
  have e2 : w2 = pw_cn (pw_tb j) 10 := e
  omega
/-! ===== the chosen set: from the thing with the greatest number down ===== -/
def pw_CI (R : Nat → Nat → Bool) (j n : Nat) (left : Nat → Bool) (due : Nat) : Prop :=
  (∀ i, i < 10 → left i = true → i < n) ∧ (∀ i, i < 10 → i < n → pw_tb j i = true → left i = true) ∧ (∀ i b, i < 10 → b < 10 → n ≤ b → left i = true → pw_tb j b = true → R i b = false ∧ R b i = false) ∧ pw_Width R left due ∧ pw_cn (fun i => pw_tb j i && decide (i < n)) 10 = due
theorem pw_Width.uniq {R : Nat → Nat → Bool} {P : Nat → Bool} {a b : Nat} (h1 : pw_Width R P a) (h2 : pw_Width R P b) : a = b := by
  obtain ⟨⟨Q, q1, q2, q3⟩, q4⟩ := h1
  obtain ⟨⟨T, t1, t2, t3⟩, t4⟩ := h2
  have g1 := q4 T t1 t2
  have g2 := t4 Q q1 q2
  omega
theorem pw_CI.start {R : Nat → Nat → Bool} {j w : Nat} (hO : pw_Ord R) (hb : pw_Best R (fun _ => false) (fun _ => false) false 1024 j) (hw : pw_Width R (fun _ => true) w) : pw_CI R j 10 (fun _ => true) w := by
  refine ⟨fun i hi _ => hi, fun _ _ _ _ => rfl, fun i b _ h1 h2 => absurd h1 (by omega), hw, ?_⟩
  have e : pw_cn (fun i => pw_tb j i && decide (i < 10)) 10 = pw_cn (pw_tb j) 10 := pw_cn_congr 10 (fun i hi => by simp [hi])
  rw [e]
  exact (pw_Sz.width hO (P := fun _ => true) (O := fun _ => false) (fun _ _ => rfl) hw ⟨some j, hb, rfl⟩).symm
theorem pw_cn_below {B : Nat → Bool} {n : Nat} (hn : n < 10) : pw_cn (fun i => B i && decide (i < n + 1)) 10 = pw_cn (fun i => B i && decide (i < n)) 10 + (if B n = true then 1 else 0) := by
  by_cases hb : B n = true
  · have e9 : pw_cn (fun i => (B i && decide (i < n + 1)) && !(i == n)) 10 = pw_cn (fun i => B i && decide (i < n)) 10 := pw_cn_congr 10 (fun i _ => by
      by_cases e : i = n
      · subst e; simp
      · have e2 : (i < n + 1) ↔ (i < n) := by omega
        simp [pw_ne e, e2])
    rw [if_pos hb, pw_cn_rem (P := fun i => B i && decide (i < n + 1)) (k := n) hn (by simp [hb]), e9]
  · have e9 : pw_cn (fun i => B i && decide (i < n + 1)) 10 = pw_cn (fun i => B i && decide (i < n)) 10 := pw_cn_congr 10 (fun i _ => by
      by_cases e : i = n
      · subst e; simp at hb; simp [hb]
      · have e2 : (i < n + 1) ↔ (i < n) := by omega
        simp [e2])
    rw [if_neg hb, e9, Nat.add_zero]
theorem pw_CI.out {R : Nat → Nat → Bool} {j n : Nat} {left : Nat → Bool} {due : Nat} (h : pw_CI R j (n + 1) left due) (hn : n < 10) (hl : left n = false) : pw_CI R j n left due ∧ pw_tb j n = false := by
  obtain ⟨h1, h2, h3, h4, h5⟩ := h
  have hB : pw_tb j n = false := by
    cases hq : pw_tb j n with
    | false => rfl
    | true => exact (pw_tf hl (h2 n hn (by omega) hq)).elim
  refine ⟨⟨fun i hi hs => ?_, fun i hi hin hs => h2 i hi (by omega) hs, fun i b hi hb hnb hs ht => ?_, h4, ?_⟩, hB⟩
  · have := h1 i hi hs
    by_cases e : i = n
    · rw [e] at hs; exact (pw_tf hl hs).elim
    · omega
  · by_cases e : b = n
    · rw [e] at ht; exact (pw_tf hB ht).elim
    · exact h3 i b hi hb (by omega) hs ht
  · rw [pw_cn_below hn, hB] at h5
    simpa using h5
theorem pw_Anti.sub {R : Nat → Nat → Bool} {P Q : Nat → Bool} (h : pw_Anti R P) (hs : pw_In Q P) : pw_Anti R Q := fun a b ha hb hqa hqb => h a b ha hb (hs a ha hqa) (hs b hb hqb)
theorem pw_CI.leave {R : Nat → Nat → Bool} {j n : Nat} {left : Nat → Bool} {due : Nat} (hO : pw_Ord R) (hb : pw_Best R (fun _ => false) (fun _ => false) false 1024 j) (h : pw_CI R j (n + 1) left due) (hn : n < 10) (hl : left n = true) (hw : pw_Width R (fun i => left i && !(i == n)) due) : pw_CI R j n (fun i => left i && !(i == n)) due ∧ pw_tb j n = false := by
  obtain ⟨h1, h2, h3, h4, h5⟩ := h
  have hA := (pw_Fit.anti hO).mp hb.2.1.2.2
  have hB : pw_tb j n = false := by
    cases hq : pw_tb j n with
    | false => rfl
    | true =>
      exfalso
      obtain ⟨⟨Q, q1, q2, q3⟩, -⟩ := hw
      have qn : ∀ i, i < 10 → Q i = true → left i = true ∧ i < n := fun i hi hs => by
        have := q1 i hi hs
        rw [Bool.and_eq_true] at this
        have h9 := h1 i hi this.1
        have h8 : i ≠ n := by simpa using this.2
        exact ⟨this.1, by omega⟩
      have hanti : pw_Anti R (fun i => (Q i && decide (i < n)) || (pw_tb j i && !decide (i < n + 1))) := by
        intro a b ha hb2 hca hcb
        rw [Bool.or_eq_true, Bool.and_eq_true, Bool.and_eq_true] at hca hcb
        rcases hca with ⟨a1, -⟩ | ⟨a1, a2⟩ <;> rcases hcb with ⟨b1, -⟩ | ⟨b1, b2⟩
        · exact q2 a b ha hb2 a1 b1
        · exact (h3 a b ha hb2 (by simpa using b2) (qn a ha a1).1 b1).1
        · exact (h3 b a hb2 ha (by simpa using a2) (qn b hb2 b1).1 a1).2
        · exact hA a b ha hb2 a1 b1
      have hall := hb.all (Q := fun i => (Q i && decide (i < n)) || (pw_tb j i && !decide (i < n + 1))) (fun i _ h => by cases h) (fun i _ h => by cases h) ((pw_Fit.anti hO).mpr hanti)
      have hcount : pw_cn (fun i => (Q i && decide (i < n)) || (pw_tb j i && !decide (i < n + 1))) 10 = pw_cn (pw_tb j) 10 := by
        rw [pw_cn_split _ (fun i => decide (i < n + 1)) 10, pw_cn_split (pw_tb j) (fun i => decide (i < n + 1)) 10, h5]
        congr 1
        · rw [← q3]
          refine pw_cn_congr 10 (fun i hi => ?_)
          cases hqi : Q i with
          | true =>
            have := (qn i hi hqi).2
            simp [this, show i < n + 1 by omega]
          | false =>
            by_cases e : i < n + 1
            · simp [e]
            · simp [e]
        · refine pw_cn_congr 10 (fun i hi => ?_)
          by_cases e : i < n + 1
          · simp [e]
          · simp [e, show ¬ i < n by omega]
      have hle := hall.2 hcount
      have hless : pw_mk (fun i => (Q i && decide (i < n)) || (pw_tb j i && !decide (i < n + 1))) 10 < pw_mk (pw_tb j) 10 := by
        refine pw_mk_less (t := n) hq ?_ 10 hn (fun i hi1 hi2 => ?_)
        · simp
        · simp [show ¬ i < n by omega, show ¬ i < n + 1 by omega]
      have hself : pw_mk (pw_tb j) 10 = j := pw_mk_self hb.1
      omega
  refine ⟨⟨fun i hi hs => ?_, fun i hi hin hs => ?_, fun i b hi hb2 hnb hs ht => ?_, hw, ?_⟩, hB⟩
  · rw [Bool.and_eq_true] at hs
    have h9 := h1 i hi hs.1
    have h8 : i ≠ n := by simpa using hs.2
    omega
  · rw [Bool.and_eq_true]
    exact ⟨h2 i hi (by omega) hs, by simp; omega⟩
  · rw [Bool.and_eq_true] at hs
    by_cases e : b = n
    · rw [e] at ht; exact (pw_tf hB ht).elim
    · exact h3 i b hi hb2 (by omega) hs.1 ht
  · rw [pw_cn_below hn, hB] at h5
    simpa using h5
theorem pw_CI.take {R : Nat → Nat → Bool} {j n : Nat} {left : Nat → Bool} {due w : Nat} (hO : pw_Ord R) (hb : pw_Best R (fun _ => false) (fun _ => false) false 1024 j) (h : pw_CI R j (n + 1) left due) (hn : n < 10) (hl : left n = true) (hw : pw_Width R (fun i => left i && !(i == n)) w) (hne : w ≠ due) : pw_tb j n = true ∧ 1 ≤ due ∧ pw_CI R j n (fun i => (left i && !(i == n)) && pw_bes R n i) (due - 1) := by
  obtain ⟨h1, h2, h3, h4, h5⟩ := h
  have hA := (pw_Fit.anti hO).mp hb.2.1.2.2
  have hB : pw_tb j n = true := by
    cases hq : pw_tb j n with
    | true => rfl
    | false =>
      exfalso
      have g1 : due ≤ w := by
        rw [← h5]
        refine hw.2 _ (fun i hi hs => ?_) (hA.sub (fun i _ hs => by rw [Bool.and_eq_true] at hs; exact hs.1))
        rw [Bool.and_eq_true] at hs ⊢
        refine ⟨h2 i hi (by simpa using hs.2) hs.1, ?_⟩
        by_cases e : i = n
        · rw [e, hq] at hs; simp at hs
        · simp [e]
      obtain ⟨⟨Q, q1, q2, q3⟩, -⟩ := hw
      have g2 := h4.2 Q (fun i hi hs => by
        have := q1 i hi hs
        rw [Bool.and_eq_true] at this
        exact this.1) q2
      omega
  have h6 := h5
  rw [pw_cn_below hn, if_pos hB] at h6
  have hin : ∀ i, i < 10 → i < n → pw_tb j i = true → ((left i && !(i == n)) && pw_bes R n i) = true := fun i hi hin hs => by
    rw [Bool.and_eq_true, Bool.and_eq_true]
    exact ⟨⟨h2 i hi (by omega) hs, by simp; omega⟩, pw_bes_iff.mpr ⟨hA n i hn hi hB hs, hA i n hi hn hs hB, by omega⟩⟩
  refine ⟨hB, by omega, fun i hi hs => ?_, hin, fun i b hi hb2 hnb hs ht => ?_, ⟨⟨fun i => pw_tb j i && decide (i < n), fun i hi hs => ?_, hA.sub (fun i _ hs => by rw [Bool.and_eq_true] at hs; exact hs.1), by omega⟩, fun Q q1 q2 => ?_⟩, by omega⟩
  · rw [Bool.and_eq_true, Bool.and_eq_true] at hs
    have h9 := h1 i hi hs.1.1
    have h8 : i ≠ n := by simpa using hs.1.2
    omega
  · rw [Bool.and_eq_true, Bool.and_eq_true] at hs
    by_cases e : b = n
    · rw [e]
      have := pw_bes_iff.mp hs.2
      exact ⟨this.2.1, this.1⟩
    · exact h3 i b hi hb2 (by omega) hs.1.1 ht
  · rw [Bool.and_eq_true] at hs
    exact hin i hi (by simpa using hs.2) hs.1
  · have qq : ∀ i, i < 10 → Q i = true → left i = true ∧ i ≠ n ∧ R n i = false ∧ R i n = false := fun i hi hs => by
      have := q1 i hi hs
      rw [Bool.and_eq_true, Bool.and_eq_true] at this
      have h9 := pw_bes_iff.mp this.2
      exact ⟨this.1.1, h9.2.2, h9.1, h9.2.1⟩
    have hQn : Q n = false := by
      cases hq : Q n with
      | false => rfl
      | true => exact absurd rfl (qq n hn hq).2.1
    have g := h4.2 (fun i => Q i || (i == n)) (fun i hi hs => by
      by_cases e : i = n
      · rw [e]; exact hl
      · simp [e] at hs; exact (qq i hi hs).1) (fun a b ha hb2 hca hcb => by
      by_cases ea : a = n
      · by_cases eb : b = n
        · rw [ea, eb]; exact hO.1 n hn
        · simp [eb] at hcb
          rw [ea]; exact (qq b hb2 hcb).2.2.1
      · simp [ea] at hca
        by_cases eb : b = n
        · rw [eb]; exact (qq a ha hca).2.2.2
        · simp [eb] at hcb
          exact q2 a b ha hb2 hca hcb)
    rw [pw_cn_add hn hQn] at g
    omega
/-! ===== put and release ===== -/
def pw_put (R : Nat → Nat → Bool) (a b : Nat) : Nat → Nat → Bool := fun x y => R x y || (((x == a) || R x a) && ((y == b) || R b y))
def pw_rel (R : Nat → Nat → Bool) (t : Nat) : Nat → Nat → Bool := fun x y => (R x y && !(x == t)) && !(y == t)
theorem pw_rel_iff {R : Nat → Nat → Bool} {t x y : Nat} : pw_rel R t x y = true ↔ R x y = true ∧ x ≠ t ∧ y ≠ t := by
  unfold pw_rel
  rw [Bool.and_eq_true, Bool.and_eq_true]
  simp [and_assoc]
theorem pw_Ord.rel {R : Nat → Nat → Bool} (hO : pw_Ord R) (t : Nat) : pw_Ord (pw_rel R t) := by
  refine ⟨fun a ha => ?_, fun a b c ha hb hc h1 h2 => ?_⟩
  · unfold pw_rel; rw [hO.1 a ha]; rfl
  · obtain ⟨g1, g2, g3⟩ := pw_rel_iff.mp h1
    obtain ⟨k1, k2, k3⟩ := pw_rel_iff.mp h2
    exact pw_rel_iff.mpr ⟨hO.2 a b c ha hb hc g1 k1, g2, k3⟩
theorem pw_put_iff {R : Nat → Nat → Bool} {a b x y : Nat} : pw_put R a b x y = true ↔ R x y = true ∨ ((x = a ∨ R x a = true) ∧ (y = b ∨ R b y = true)) := by
  unfold pw_put
  simp [Bool.or_eq_true, Bool.and_eq_true]
theorem pw_Ord.put {R : Nat → Nat → Bool} (hO : pw_Ord R) {a b : Nat} (ha : a < 10) (hb : b < 10) (hne : a ≠ b) (hba : R b a = false) : pw_Ord (pw_put R a b) := by
  have key : ∀ x, x < 10 → (x = a ∨ R x a = true) → (x = b ∨ R b x = true) → False := by
    intro x hx h1 h2
    rcases h1 with e | e
    · rcases h2 with f | f
      · exact hne (e.symm.trans f)
      · rw [e] at f; exact pw_tf hba f
    · rcases h2 with f | f
      · rw [f] at e; exact pw_tf hba e
      · exact pw_tf hba (hO.2 b x a hb hx ha f e)
  refine ⟨fun x hx => ?_, fun x y z hx hy hz h1 h2 => ?_⟩
  · cases h : pw_put R a b x x with
    | false => rfl
    | true =>
      rcases pw_put_iff.mp h with g | ⟨g1, g2⟩
      · exact (pw_tf (hO.1 x hx) g).elim
      · exact (key x hx g1 g2).elim
  · rcases pw_put_iff.mp h1 with g | ⟨g1, g2⟩
    · rcases pw_put_iff.mp h2 with k | ⟨k1, k2⟩
      · exact pw_put_iff.mpr (Or.inl (hO.2 x y z hx hy hz g k))
      · refine pw_put_iff.mpr (Or.inr ⟨Or.inr ?_, k2⟩)
        rcases k1 with e | e
        · rw [← e]; exact g
        · exact hO.2 x y a hx hy ha g e
    · rcases pw_put_iff.mp h2 with k | ⟨k1, k2⟩
      · refine pw_put_iff.mpr (Or.inr ⟨g1, Or.inr ?_⟩)
        rcases g2 with e | e
        · rw [← e]; exact k
        · exact hO.2 b y z hb hy hz e k
      · exact (key y hy k1 g2).elim
/-! ===== pairs ===== -/
def pw_prs (R : Nat → Nat → Bool) : Nat → Nat
  | 0 => 0
  | n + 1 => pw_prs R n + pw_cn (R n) 10
theorem pw_prs_le (R : Nat → Nat → Bool) : ∀ n, pw_prs R n ≤ 10 * n
  | 0 => Nat.le_refl 0
  | n + 1 => by
    have h := pw_prs_le R n
    have h2 := pw_cn_le (R n) 10
    simp only [pw_prs]
    omega
theorem pw_cn_app (P : Nat → Bool) (m : Nat) : ∀ n, pw_cn P (m + n) = pw_cn P m + pw_cn (fun i => P (m + i)) n
  | 0 => rfl
  | n + 1 => by
    have ih := pw_cn_app P m n
    rw [← Nat.add_assoc]
    simp only [pw_cn]
    rw [ih]
    omega
theorem pw_prs_flat (R : Nat → Nat → Bool) : ∀ n, pw_cn (fun i => R (i / 10) (i % 10)) (10 * n) = pw_prs R n
  | 0 => rfl
  | n + 1 => by
    have ih := pw_prs_flat R n
    rw [show 10 * (n + 1) = 10 * n + 10 by omega, pw_cn_app, ih]
    simp only [pw_prs]
    congr 1
    refine pw_cn_congr 10 (fun i hi => ?_)
    rw [show (10 * n + i) / 10 = n by omega, show (10 * n + i) % 10 = i by omega]
end
section
/-! ===== rows for the walks: arrays by a number's place, answers, calls that change nothing, calls that change one object ===== -/
abbrev pw_cl : List vw_C := [(RX0, TX0, 7), (RX1, TX1, 1)]
def pw_no : Nat → Prop := fun _ => False
def pw_AX (h : Nat → Nat) (k : Nat) : Nat → Prop := fun q => ∃ i, i < k ∧ q = h i
abbrev pw_X0 (d : ClassId) (h : Nat → Nat) (a b n p r q : Nat → Int32) (qe : Int32) : va_W := [(h 0, .inr (0, [.ref (h 1), .ref (h 2), .ref (h 3), .ref (h 4), .ref (h 5), .ref (h 6), .int qe])), (h 1, .inl (d, 10, .inl a)), (h 2, .inl (d, 10, .inl b)), (h 3, .inl (d, 10, .inl n)), (h 4, .inl (d, 10, .inl p)), (h 5, .inl (d, 10, .inl r)), (h 6, .inl (d, 10, .inl q))]
abbrev pw_X1 (d : ClassId) (h : Nat → Nat) (z : Nat → Int32) : va_W := [(h 0, .inr (1, [.ref (h 1)])), (h 1, .inl (d, 100, .inl z))]
abbrev pw_St : Type := (Nat → Int32) × (Nat → Int32) × (Nat → Int32) × (Nat → Int32) × (Nat → Int32) × (Nat → Int32) × Int32
theorem pw_AXi {h : Nat → Nat} {n : Nat} : ∀ k, k < n → pw_AX h n (h k) := fun k hk => ⟨k, hk, rfl⟩
theorem pw_X0_D {A : Nat → Prop} {d : ClassId} {h : Nat → Nat} {a b n p r q : Nat → Int32} {qe : Int32} (hj : ∀ i j, i < 7 → j < 7 → h i = h j → i = j) (hA : ∀ k, k < 7 → A (h k)) : va_D A (pw_X0 d h a b n p r q qe) := by
  have key : ∀ (i : Nat) (x : Nat × va_E), (pw_X0 d h a b n p r q qe)[i]? = some x → i < 7 ∧ x.1 = h i := by
    intro i x hx
    match i, hx with
    | 0, hx => cases hx; exact ⟨by omega, rfl⟩
    | 1, hx => cases hx; exact ⟨by omega, rfl⟩
    | 2, hx => cases hx; exact ⟨by omega, rfl⟩
    | 3, hx => cases hx; exact ⟨by omega, rfl⟩
    | 4, hx => cases hx; exact ⟨by omega, rfl⟩
    | 5, hx => cases hx; exact ⟨by omega, rfl⟩
    | 6, hx => cases hx; exact ⟨by omega, rfl⟩
    | i + 7, hx => cases hx
  refine ⟨fun i j x y hx hy hxy => ?_, fun k x hx => ?_⟩
  · obtain ⟨i1, i2⟩ := key i x hx
    obtain ⟨j1, j2⟩ := key j y hy
    exact hj i j i1 j1 (by rw [← i2, ← j2]; exact hxy)
  · obtain ⟨k1, k2⟩ := key k x hx
    rw [k2]; exact hA k k1
theorem pw_X1_D {A : Nat → Prop} {d : ClassId} {h : Nat → Nat} {z : Nat → Int32} (hj : ∀ i j, i < 2 → j < 2 → h i = h j → i = j) (hA : ∀ k, k < 2 → A (h k)) : va_D A (pw_X1 d h z) := by
  have key : ∀ (i : Nat) (x : Nat × va_E), (pw_X1 d h z)[i]? = some x → i < 2 ∧ x.1 = h i := by
    intro i x hx
    match i, hx with
    | 0, hx => cases hx; exact ⟨by omega, rfl⟩
    | 1, hx => cases hx; exact ⟨by omega, rfl⟩
    | i + 2, hx => cases hx
  refine ⟨fun i j x y hx hy hxy => ?_, fun k x hx => ?_⟩
  · obtain ⟨i1, i2⟩ := key i x hx
    obtain ⟨j1, j2⟩ := key j y hy
    exact hj i j i1 j1 (by rw [← i2, ← j2]; exact hxy)
  · obtain ⟨k1, k2⟩ := key k x hx
    rw [k2]; exact hA k k1
theorem pw_keep {D : va_G} {cl : List vw_C} {ws : va_W} {H H1 : Heap} (h : va_P D cl ws H) (hk : ∀ q : Nat, q < H.size → H1[q]? = H[q]?) : va_P D cl ws H1 := h.kept (fun k q hq => hk q.1 (h k q hq).lt)
abbrev pw_Q (post : Int32 → Prop) : Array Value → State → Outcome → State → Prop := va_Qi (fun (r : Int32) (_ : Unit) => post r) (fun _ _ => True) pw_no
abbrev pw_P (D : va_G) (ws : va_W) (tys : List (ClassId × FieldType)) (av : List Value) : Array Value → State → Prop := va_Pc av (fun U => va_P D pw_cl ws U.heap ∧ va_K D pw_cl tys U)
/-- a method that changes nothing -/
abbrev pw_RO (l : Launch) (y : MethodName) (code : ByteArray) (nl : Nat) (ret : Option FieldType) (rm : Room) (D : va_G) (ws : va_W) (tys : List (ClassId × FieldType)) (av : List Value) (post : Int32 → Prop) : Prop := Met l y (ws_ y code nl ret) rm (pw_P D ws tys av) (pw_Q post) 0 0 pw_no
abbrev pw_B0 (D : va_G) (d : ClassId) (h : Nat → Nat) (u : pw_St) (t : State) : Prop := va_P D pw_cl (pw_X0 d h u.1 u.2.1 u.2.2.1 u.2.2.2.1 u.2.2.2.2.1 u.2.2.2.2.2.1 u.2.2.2.2.2.2) t.heap
abbrev pw_Q0 (post : Int32 → pw_St → Prop) (D : va_G) (d : ClassId) (h : Nat → Nat) : Array Value → State → Outcome → State → Prop := va_Qi post (pw_B0 D d h) (pw_AX h 7)
abbrev pw_V0 (post : pw_St → Prop) (D : va_G) (d : ClassId) (h : Nat → Nat) : Array Value → State → Outcome → State → Prop := va_Qv post (pw_B0 D d h) (pw_AX h 7)
/-- a method of PosetWidth that changes its object's cells alone -/
abbrev pw_MU (l : Launch) (y : MethodName) (code : ByteArray) (nl : Nat) (ret : Option FieldType) (rm : Room) (D : va_G) (d : ClassId) (h : Nat → Nat) (a b n p r q : Nat → Int32) (qe : Int32) (av : List Value) (post : Int32 → pw_St → Prop) : Prop := Met l y (ws_ y code nl ret) rm (pw_P D (pw_X0 d h a b n p r q qe) [(d, .int)] av) (pw_Q0 post D d h) 0 0 (pw_AX h 7)
abbrev pw_MV (l : Launch) (y : MethodName) (code : ByteArray) (nl : Nat) (rm : Room) (D : va_G) (d : ClassId) (h : Nat → Nat) (a b n p r q : Nat → Int32) (qe : Int32) (av : List Value) (post : pw_St → Prop) : Prop := Met l y (ws_ y code nl none) rm (pw_P D (pw_X0 d h a b n p r q qe) [(d, .int)] av) (pw_V0 post D d h) 0 0 (pw_AX h 7)
abbrev pw_Q1 (post : Int32 → (Nat → Int32) → Prop) (D : va_G) (d : ClassId) (h : Nat → Nat) : Array Value → State → Outcome → State → Prop := va_Qi post (fun z t => va_P D pw_cl (pw_X1 d h z) t.heap) (pw_AX h 2)
/-- a method of PosetWidthModel that changes its object's cells alone -/
abbrev pw_MZ (l : Launch) (y : MethodName) (code : ByteArray) (nl : Nat) (ret : Option FieldType) (rm : Room) (D : va_G) (d : ClassId) (h : Nat → Nat) (z : Nat → Int32) (av : List Value) (post : Int32 → (Nat → Int32) → Prop) : Prop := Met l y (ws_ y code nl ret) rm (pw_P D (pw_X1 d h z) [(d, .boolean)] av) (pw_Q1 post D d h) 0 0 (pw_AX h 2)
theorem pw_blind {D : va_G} {ws : va_W} {tys : List (ClassId × FieldType)} {av : List Value} : FrameBlind (pw_P D ws tys av) := by
  intro a U g mk q
  obtain ⟨q0, qP, qK⟩ := q
  exact ⟨q0, qP, va_K.moved (u := U) (U := U.calling g mk a) (Vm.Alike.refl U.vm) qK⟩
section PW
variable {p : Program} {l : Launch} {e : Env} {R : Room} {s : State} {m : MethodId} {args : Array Value} {below : List Frame} {meth : Method} {c : Code} {H : Heap} {locs : List Loc} {cells slots : Nat} {Q : State → Prop}
variable {cc : ByteArray} {pc : Nat} {ls : Array Slot} {rest st0 : List Value} {D : va_G} {cl : List vw_C} {A A0 : Nat → Prop} {a : Nat} {tys : List (ClassId × FieldType)} {ws : va_W} {H0 : Heap}
theorem pw_top {x y : Int32} (h : x = y) (k : W p l e R s m args below meth c H locs cells slots Q (F0 m pc ls (.int y :: rest))) : W p l e R s m args below meth c H locs cells slots Q (F0 m pc ls (.int x :: rest)) := by
  rw [h]; exact k
theorem pw_iald (hexec : p.tables.exec = Jvm.exec) (hb : c.code = cc) (hK : va_K D cl tys s) (hP : va_P D cl ws H) (q0 t0 : Nat) {cA : ClassId} {n : Nat} {f : Nat → Int32} (ha : ws[q0]? = some (a, .inl (cA, n, .inl f))) (ht : tys[t0]? = some (cA, .int)) {i : Nat} (hi : i < n) (hn : n < 2 ^ 31) (hdg : decode cc pc = .ok (.iaload, 1))
    (kk : W p l e R s m args below meth c H locs cells slots Q (F0 m (pc + 1) ls (.int (f i) :: rest))) : W p l e R s m args below meth c H locs cells slots Q (F0 m pc ls (.int (nI i) :: .ref a :: rest)) :=
  va_iald hexec hb hK hP q0 t0 ha ht (vp_in_nI hi hn) hdg (by rw [nI_clamp (by omega)]; exact kk)
theorem pw_zald (hexec : p.tables.exec = Jvm.exec) (hb : c.code = cc) (hK : va_K D cl tys s) (hP : va_P D cl ws H) (q0 t0 : Nat) {cA : ClassId} {n : Nat} {f : Nat → Int32} (ha : ws[q0]? = some (a, .inl (cA, n, .inl f))) (ht : tys[t0]? = some (cA, .boolean)) {i : Nat} (hi : i < n) (hn : n < 2 ^ 31) (hdg : decode cc pc = .ok (.baload, 1))
    (kk : W p l e R s m args below meth c H locs cells slots Q (F0 m (pc + 1) ls (.int (f i) :: rest))) : W p l e R s m args below meth c H locs cells slots Q (F0 m pc ls (.int (nI i) :: .ref a :: rest)) :=
  va_zald hexec hb hK hP q0 t0 ha ht (vp_in_nI hi hn) hdg (by rw [nI_clamp (by omega)]; exact kk)
theorem pw_iast (hexec : p.tables.exec = Jvm.exec) (hb : c.code = cc) (hK : va_K D cl tys s) (hP : va_P D cl ws H) (hD : va_D A ws) (hS : va_S A H0 H locs) (q0 t0 : Nat) {cA : ClassId} {n : Nat} {f : Nat → Int32} (ha : ws[q0]? = some (a, .inl (cA, n, .inl f))) (ht : tys[t0]? = some (cA, .int)) {i : Nat} {x : Int32} (hi : i < n) (hn : n < 2 ^ 31) (hdg : decode cc pc = .ok (.iastore, 1))
    (kk : ∀ (H1 : Heap) (locs1 : List Loc), va_P D cl (ws.set q0 (a, .inl (cA, n, .inl (upd f i x)))) H1 → va_S A H0 H1 locs1 → W p l e R s m args below meth c H1 locs1 cells slots Q (F0 m (pc + 1) ls rest)) : W p l e R s m args below meth c H locs cells slots Q (F0 m pc ls (.int x :: .int (nI i) :: .ref a :: rest)) :=
  va_iast hexec hb hK hP hD hS q0 t0 ha ht (vp_in_nI hi hn) hdg (fun H1 locs1 h1 _ h3 => kk H1 locs1 (by rw [nI_clamp (by omega)] at h1; exact h1) h3)
theorem pw_zast (hexec : p.tables.exec = Jvm.exec) (hb : c.code = cc) (hK : va_K D cl tys s) (hP : va_P D cl ws H) (hD : va_D A ws) (hS : va_S A H0 H locs) (q0 t0 : Nat) {cA : ClassId} {n : Nat} {f : Nat → Int32} (ha : ws[q0]? = some (a, .inl (cA, n, .inl f))) (ht : tys[t0]? = some (cA, .boolean)) {i : Nat} {x : Int32} (hx : vp_nar .boolean x = x) (hi : i < n) (hn : n < 2 ^ 31) (hdg : decode cc pc = .ok (.bastore, 1))
    (kk : ∀ (H1 : Heap) (locs1 : List Loc), va_P D cl (ws.set q0 (a, .inl (cA, n, .inl (upd f i x)))) H1 → va_S A H0 H1 locs1 → W p l e R s m args below meth c H1 locs1 cells slots Q (F0 m (pc + 1) ls rest)) : W p l e R s m args below meth c H locs cells slots Q (F0 m pc ls (.int x :: .int (nI i) :: .ref a :: rest)) :=
  va_zast hexec hb hK hP hD hS q0 t0 ha ht (vp_in_nI hi hn) hdg (fun H1 locs1 h1 _ h3 => kk H1 locs1 (by rw [nI_clamp (by omega), hx] at h1; exact h1) h3)
theorem pw_ret {post : Int32 → Prop} {v : Int32} {ty : FieldType} (hexec : p.tables.exec = Jvm.exec) (hb : c.code = cc) (hr : meth.sig.returnType = some ty) (hl : meth.locks = false) (hS : va_S pw_no s.heap H locs) (hn : narrow ty (.int v) = .int v) (hp : post v) (hdg : decode cc pc = .ok (.ireturn, 1)) : W p l e R s m args below meth c H locs cells slots (MQ below (pw_Q post) args s cells slots pw_no) (F0 m pc ls [.int v]) :=
  W.zret (hlocks := hl) hexec hb hr hn (fun t ht hW => ⟨⟨v, (), rfl, hp, trivial⟩, hS.F ht⟩) hS.2.2 hdg
theorem pw_ret0 {d : ClassId} {h : Nat → Nat} {fa fb fn fp fr fq : Nat → Int32} {qe : Int32} {post : Int32 → pw_St → Prop} {v : Int32} {ty : FieldType} (hexec : p.tables.exec = Jvm.exec) (hb : c.code = cc) (hr : meth.sig.returnType = some ty) (hl : meth.locks = false) (hP : va_P D pw_cl (pw_X0 d h fa fb fn fp fr fq qe) H) (hS : va_S (pw_AX h 7) s.heap H locs) (hn : narrow ty (.int v) = .int v) (hp : post v (fa, fb, fn, fp, fr, fq, qe)) (hdg : decode cc pc = .ok (.ireturn, 1)) : W p l e R s m args below meth c H locs cells slots (MQ below (pw_Q0 post D d h) args s cells slots (pw_AX h 7)) (F0 m pc ls [.int v]) :=
  W.zret (hlocks := hl) hexec hb hr hn (fun t ht hW => ⟨⟨v, (fa, fb, fn, fp, fr, fq, qe), rfl, hp, (by show va_P D pw_cl _ t.heap; rw [ht]; exact hP)⟩, hS.F ht⟩) hS.2.2 hdg
theorem pw_retv {d : ClassId} {h : Nat → Nat} {fa fb fn fp fr fq : Nat → Int32} {qe : Int32} {post : pw_St → Prop} (hexec : p.tables.exec = Jvm.exec) (hb : c.code = cc) (hr : meth.sig.returnType = none) (hl : meth.locks = false) (hP : va_P D pw_cl (pw_X0 d h fa fb fn fp fr fq qe) H) (hS : va_S (pw_AX h 7) s.heap H locs) (hp : post (fa, fb, fn, fp, fr, fq, qe)) (hdg : decode cc pc = .ok (.return_, 1)) : W p l e R s m args below meth c H locs cells slots (MQ below (pw_V0 post D d h) args s cells slots (pw_AX h 7)) (F0 m pc ls []) :=
  W.vret (hlocks := hl) hexec hb hr (fun t ht hW => ⟨⟨(fa, fb, fn, fp, fr, fq, qe), rfl, hp, (by show va_P D pw_cl _ t.heap; rw [ht]; exact hP)⟩, hS.F ht⟩) hS.2.2 hdg
theorem pw_ret1 {d : ClassId} {h : Nat → Nat} {z : Nat → Int32} {post : Int32 → (Nat → Int32) → Prop} {v : Int32} {ty : FieldType} (hexec : p.tables.exec = Jvm.exec) (hb : c.code = cc) (hr : meth.sig.returnType = some ty) (hl : meth.locks = false) (hP : va_P D pw_cl (pw_X1 d h z) H) (hS : va_S (pw_AX h 2) s.heap H locs) (hn : narrow ty (.int v) = .int v) (hp : post v z) (hdg : decode cc pc = .ok (.ireturn, 1)) : W p l e R s m args below meth c H locs cells slots (MQ below (pw_Q1 post D d h) args s cells slots (pw_AX h 2)) (F0 m pc ls [.int v]) :=
  W.zret (hlocks := hl) hexec hb hr hn (fun t ht hW => ⟨⟨v, z, rfl, hp, (by show va_P D pw_cl _ t.heap; rw [ht]; exact hP)⟩, hS.F ht⟩) hS.2.2 hdg
section PWC
variable {y : MethodName} {bytes : ByteArray} {maxL nL n index : Nat} {ret : Option FieldType} {rm : Room} {own C : String} {bb : Nat} {As : List Value} {wc : va_W} {tc : List (ClassId × FieldType)} {d : ClassId} {h : Nat → Nat} {fa fb fn fp fr fq : Nat → Int32} {qe : Int32}
theorem pw_callV {post : Int32 → Prop} (S : CallFix p m c cc nL s args lw_all own) (hM : pw_RO l y bytes maxL ret rm D wc tc (.ref bb :: As) post) (cw : CallW R s args own C index y bytes maxL ret (ws_ y bytes maxL ret) rm 0 0 n) (hK : va_K D pw_cl tys s) (hP : va_P D pw_cl wc H) (isT : List Nat) (hT : isT.filterMap (fun i => tys[i]?) = tc) {ci : Nat} {fs : List Value} {qc : vw_C} (hc1 : pw_cl[ci]? = some qc) (hc2 : wc[0]? = some (bb, .inr (ci, fs))) (hC : qc.1 = C) (hS : va_S A0 H0 H locs)
    (hn : As.length = n) (hsz : ls.size = nL) (hst : st0 = As.reverse ++ .ref bb :: rest) (hroom : (rest.map fun v => v.category).sum ≤ 8) (hdg : decode cc pc = .ok (.invokevirtual index, 3)) (hf : cells ≤ R.cells ∧ slots ≤ R.slots)
    (kk : ∀ (r : Int32) (H1 : Heap) (locs1 : List Loc), post r → (∀ q : Nat, q < H.size → H1[q]? = H[q]?) → va_S A0 H0 H1 locs1 → W p l e R s m args below meth c H1 locs1 cells slots Q (F0 m (pc + 3) ls (.int r :: rest))) : W p l e R s m args below meth c H locs cells slots Q (F0 m pc ls st0) := by
  subst hC
  exact va_calli (va_runV (As := As) (rest := rest) S hM cw ⟨pw_blind, va_recv hK hP hc1 hc2, fun U hU hW => ⟨rfl, by rw [hU]; exact hP, va_K.moved hW.alike (hK.sub isT hT)⟩⟩ rfl hn hsz hst (lv_room hroom) hdg hf) hS (fun q _ h => h.elim) (fun q h => h.elim) (fun r u t H1 locs1 ht hvm hp hB hz hk hS1 => kk r H1 locs1 hp (fun q hq => hk q hq (fun h => h)) hS1)
theorem pw_callS {post : Int32 → Prop} (S : CallFix p m c cc nL s args lw_all own) (hM : pw_RO l y bytes maxL ret rm D [] [] As post) (cw : CallB R s args own index y bytes maxL ret (ws_ y bytes maxL ret) rm 0 0 n ∧ (Cond.static y).before args s = true) (hK : va_K D pw_cl tys s) (hS : va_S A0 H0 H locs)
    (hn : As.length = n) (hsz : ls.size = nL) (hst : st0 = As.reverse ++ rest) (hroom : (rest.map fun v => v.category).sum ≤ 8) (hdg : decode cc pc = .ok (.invokestatic index, 3)) (hf : cells ≤ R.cells ∧ slots ≤ R.slots)
    (kk : ∀ (r : Int32) (H1 : Heap) (locs1 : List Loc), post r → (∀ q : Nat, q < H.size → H1[q]? = H[q]?) → va_S A0 H0 H1 locs1 → W p l e R s m args below meth c H1 locs1 cells slots Q (F0 m (pc + 3) ls (.int r :: rest))) : W p l e R s m args below meth c H locs cells slots Q (F0 m pc ls st0) :=
  va_calli (va_runS (As := As) (rest := rest) S hM cw ⟨pw_blind, fun U hU hW => ⟨rfl, (fun k q h => by simp at h), va_K.moved hW.alike (hK.sub [] rfl)⟩⟩ rfl hn hsz hst (lv_room hroom) hdg hf) hS (fun q _ h => h.elim) (fun q h => h.elim) (fun r u t H1 locs1 ht hvm hp hB hz hk hS1 => kk r H1 locs1 hp (fun q hq => hk q hq (fun h => h)) hS1)
theorem pw_call0 {post : Int32 → pw_St → Prop} (S : CallFix p m c cc nL s args lw_all own) (hM : pw_MU l y bytes maxL ret rm D d h fa fb fn fp fr fq qe (.ref (h 0) :: As) post) (cw : CallW R s args own RX0 index y bytes maxL ret (ws_ y bytes maxL ret) rm 0 0 n) (hK : va_K D pw_cl tys s) (hP : va_P D pw_cl (pw_X0 d h fa fb fn fp fr fq qe) H) (isT : List Nat) (hT : isT.filterMap (fun i => tys[i]?) = [(d, .int)]) (hA : ∀ k, k < 7 → A0 (h k)) (hS : va_S A0 H0 H locs)
    (hn : As.length = n) (hsz : ls.size = nL) (hst : st0 = As.reverse ++ .ref (h 0) :: rest) (hroom : (rest.map fun v => v.category).sum ≤ 8) (hdg : decode cc pc = .ok (.invokevirtual index, 3)) (hf : cells ≤ R.cells ∧ slots ≤ R.slots)
    (kk : ∀ (r : Int32) (ga gb gn gp gr gq : Nat → Int32) (ge : Int32) (H1 : Heap) (locs1 : List Loc), post r (ga, gb, gn, gp, gr, gq, ge) → va_P D pw_cl (pw_X0 d h ga gb gn gp gr gq ge) H1 → (∀ q : Nat, q < H.size → ¬ pw_AX h 7 q → H1[q]? = H[q]?) → va_S A0 H0 H1 locs1 → W p l e R s m args below meth c H1 locs1 cells slots Q (F0 m (pc + 3) ls (.int r :: rest))) : W p l e R s m args below meth c H locs cells slots Q (F0 m pc ls st0) :=
  va_calli (va_runV (As := As) (rest := rest) S hM cw ⟨pw_blind, va_recv hK hP (ci := 0) (q0 := 0) rfl rfl, fun U hU hW => ⟨rfl, by rw [hU]; exact hP, va_K.moved hW.alike (hK.sub isT hT)⟩⟩ rfl hn hsz hst (lv_room hroom) hdg hf) hS (fun q _ hq => by obtain ⟨k, hk, rfl⟩ := hq; exact hA k hk) (fun q hq => by obtain ⟨k, hk, rfl⟩ := hq; exact hA k hk) (fun r u t H1 locs1 ht hvm hp hB hz hk hS1 => kk r u.1 u.2.1 u.2.2.1 u.2.2.2.1 u.2.2.2.2.1 u.2.2.2.2.2.1 u.2.2.2.2.2.2 H1 locs1 hp (by rw [← ht]; exact hB) hk hS1)
theorem pw_callv {post : pw_St → Prop} (S : CallFix p m c cc nL s args lw_all own) (hM : pw_MV l y bytes maxL rm D d h fa fb fn fp fr fq qe (.ref (h 0) :: As) post) (cw : CallW R s args own RX0 index y bytes maxL none (ws_ y bytes maxL none) rm 0 0 n) (hK : va_K D pw_cl tys s) (hP : va_P D pw_cl (pw_X0 d h fa fb fn fp fr fq qe) H) (isT : List Nat) (hT : isT.filterMap (fun i => tys[i]?) = [(d, .int)]) (hA : ∀ k, k < 7 → A0 (h k)) (hS : va_S A0 H0 H locs)
    (hn : As.length = n) (hsz : ls.size = nL) (hst : st0 = As.reverse ++ .ref (h 0) :: rest) (hroom : (rest.map fun v => v.category).sum ≤ 8) (hdg : decode cc pc = .ok (.invokevirtual index, 3)) (hf : cells ≤ R.cells ∧ slots ≤ R.slots)
    (kk : ∀ (ga gb gn gp gr gq : Nat → Int32) (ge : Int32) (H1 : Heap) (locs1 : List Loc), post (ga, gb, gn, gp, gr, gq, ge) → va_P D pw_cl (pw_X0 d h ga gb gn gp gr gq ge) H1 → (∀ q : Nat, q < H.size → ¬ pw_AX h 7 q → H1[q]? = H[q]?) → va_S A0 H0 H1 locs1 → W p l e R s m args below meth c H1 locs1 cells slots Q (F0 m (pc + 3) ls rest)) : W p l e R s m args below meth c H locs cells slots Q (F0 m pc ls st0) :=
  va_callv (va_runV (As := As) (rest := rest) S hM cw ⟨pw_blind, va_recv hK hP (ci := 0) (q0 := 0) rfl rfl, fun U hU hW => ⟨rfl, by rw [hU]; exact hP, va_K.moved hW.alike (hK.sub isT hT)⟩⟩ rfl hn hsz hst (lv_room hroom) hdg hf) hS (fun q _ hq => by obtain ⟨k, hk, rfl⟩ := hq; exact hA k hk) (fun q hq => by obtain ⟨k, hk, rfl⟩ := hq; exact hA k hk) (fun u t H1 locs1 ht hvm hp hB hz hk hS1 => kk u.1 u.2.1 u.2.2.1 u.2.2.2.1 u.2.2.2.2.1 u.2.2.2.2.2.1 u.2.2.2.2.2.2 H1 locs1 hp (by rw [← ht]; exact hB) hk hS1)
theorem pw_call1 {z : Nat → Int32} {post : Int32 → (Nat → Int32) → Prop} (S : CallFix p m c cc nL s args lw_all own) (hM : pw_MZ l y bytes maxL ret rm D d h z (.ref (h 0) :: As) post) (cw : CallW R s args own RX1 index y bytes maxL ret (ws_ y bytes maxL ret) rm 0 0 n) (hK : va_K D pw_cl tys s) (hP : va_P D pw_cl (pw_X1 d h z) H) (isT : List Nat) (hT : isT.filterMap (fun i => tys[i]?) = [(d, .boolean)]) (hA : ∀ k, k < 2 → A0 (h k)) (hS : va_S A0 H0 H locs)
    (hn : As.length = n) (hsz : ls.size = nL) (hst : st0 = As.reverse ++ .ref (h 0) :: rest) (hroom : (rest.map fun v => v.category).sum ≤ 8) (hdg : decode cc pc = .ok (.invokevirtual index, 3)) (hf : cells ≤ R.cells ∧ slots ≤ R.slots)
    (kk : ∀ (r : Int32) (gz : Nat → Int32) (H1 : Heap) (locs1 : List Loc), post r gz → va_P D pw_cl (pw_X1 d h gz) H1 → (∀ q : Nat, q < H.size → ¬ pw_AX h 2 q → H1[q]? = H[q]?) → va_S A0 H0 H1 locs1 → W p l e R s m args below meth c H1 locs1 cells slots Q (F0 m (pc + 3) ls (.int r :: rest))) : W p l e R s m args below meth c H locs cells slots Q (F0 m pc ls st0) :=
  va_calli (va_runV (As := As) (rest := rest) S hM cw ⟨pw_blind, va_recv hK hP (ci := 1) (q0 := 0) rfl rfl, fun U hU hW => ⟨rfl, by rw [hU]; exact hP, va_K.moved hW.alike (hK.sub isT hT)⟩⟩ rfl hn hsz hst (lv_room hroom) hdg hf) hS (fun q _ hq => by obtain ⟨k, hk, rfl⟩ := hq; exact hA k hk) (fun q hq => by obtain ⟨k, hk, rfl⟩ := hq; exact hA k hk) (fun r u t H1 locs1 ht hvm hp hB hz hk hS1 => kk r u H1 locs1 hp (by rw [← ht]; exact hB) hk hS1)
end PWC
end PW
theorem pw_ge {i N : Nat} (c : nI N ≤ nI i) (hi : i ≤ N) (hN : N < 2 ^ 31) : i = N := by
  have := (nI_leI (a := N) (b := i) hN (by omega)).mp c
  omega
theorem pw_lt {i N : Nat} (c : ¬ nI N ≤ nI i) (hi : i ≤ N) (hN : N < 2 ^ 31) : i < N := by
  rcases Nat.lt_or_ge i N with h | h
  · exact h
  · exact absurd (nI_le h (by omega)) c
theorem pw_inc (t : Nat) : nI t + Int32.ofInt 1 = nI (t + 1) := nI_1 t
theorem pw_dec (t : Nat) : nI (t + 1) + Int32.ofInt (-1) = nI t := pk_m1 t
/-- a number that names a thing -/
def pw_th (x : Int32) : Bool := decide (¬ x < 0 ∧ x ≤ nI 9)
theorem pw_th_of {x : Int32} (h : pw_th x = true) : ∃ t, t < 10 ∧ x = nI t := by
  have h2 : ¬ x < 0 ∧ x ≤ nI 9 := by simpa [pw_th] using h
  obtain ⟨j, h3, h4⟩ := nI_of2 (x := x) (M := nI 9) (n := 9) (by decide) h2.1 h2.2
  exact ⟨j, by omega, h4⟩
theorem pw_th_nI {t : Nat} (h : t < 10) : pw_th (nI t) = true := by
  have h1 : ¬ nI t < 0 := nI_pos (by omega)
  have h2 : nI t ≤ nI 9 := nI_le (by omega) (by omega)
  simp [pw_th, h1, h2]
/-- what the arrays of PosetWidth hold -/
def pw_Rep (R : Nat → Nat → Bool) (a b : Nat → Int32) : Prop := (∀ t, t < 10 → a t = pw_ms (R t)) ∧ ∀ t, t < 10 → b t = pw_ms (fun u => R u t)
/-- what the array of PosetWidthModel holds -/
def pw_Rz (R : Nat → Nat → Bool) (z : Nat → Int32) : Prop := ∀ x y, x < 10 → y < 10 → z (10 * x + y) = pw_bI (R x y)
end
section
/-! ===== PosetWidth: the methods that change nothing ===== -/
theorem pw_th_a {x : Int32} (h : x < 0) : pw_th x = false := by simp [pw_th, h]
theorem pw_th_b {x : Int32} (h : nI 9 < x) : pw_th x = false := by
  have : ¬ x ≤ nI 9 := Int32.not_le.mpr h
  simp [pw_th, this]
theorem pw_th_c {x : Int32} (h1 : ¬ x < 0) (h2 : ¬ nI 9 < x) : pw_th x = true := by
  have : x ≤ nI 9 := Int32.not_lt.mp h2
  simp [pw_th, h1, this]
theorem pw_cn_inc (P : Nat → Bool) (t : Nat) : nI (pw_cn P t) + pw_bI (P t) = nI (pw_cn P (t + 1)) := by
  rw [pw_bI_nI, nI_add]
  simp only [pw_cn, pw_tn]
theorem pw_ms_not (X : Nat → Bool) : (1023 : Int32) &&& (pw_ms X ^^^ (-1)) = pw_ms (fun i => !X i) := by
  rw [pw_ms_all, pw_ms_andn]
  exact pw_ms_ext (fun i _ => by simp)
theorem pw_lay_a {R : Nat → Nat → Bool} {T : Nat → Bool} {t : Nat} (c : ¬ pw_ms (fun u => R u t && T u) = 0) : pw_lay R T t = false := by
  cases h : pw_lay R T t with
  | false => rfl
  | true =>
    refine absurd (pw_ms_eq0.mpr (fun u hu => ?_)) c
    have := (pw_lay_iff.mp h).2 u hu
    cases hT : T u with
    | false => simp
    | true => simp [this hT]
theorem pw_lay_b {R : Nat → Nat → Bool} {T : Nat → Bool} {t : Nat} (hT : T t = true) (c : pw_ms (fun u => R u t && T u) = 0) : pw_lay R T t = true := by
  refine pw_lay_iff.mpr ⟨hT, fun u hu hTu => ?_⟩
  have := pw_ms_eq0.mp c u hu
  simpa [hTu] using this
theorem pw_lay_c {R : Nat → Nat → Bool} {T : Nat → Bool} {t : Nat} (hT : T t = false) : pw_lay R T t = false := by simp [pw_lay, hT]
theorem pw_bel_no {L P : Nat → Bool} {t : Nat} (hL : ∀ i, i < 10 → L i = (decide (i < t) && P i)) (hp : P t = false) : ∀ i, i < 10 → L i = (decide (i < t + 1) && P i) := by
  intro i hi
  rw [hL i hi]
  by_cases e : i = t
  · subst e; simp [hp]
  · have e2 : (i < t + 1) ↔ (i < t) := by omega
    simp [e2]
theorem pw_bel_yes {L P : Nat → Bool} {t : Nat} (hL : ∀ i, i < 10 → L i = (decide (i < t) && P i)) (hp : P t = true) : ∀ i, i < 10 → (L i || (i == t)) = (decide (i < t + 1) && P i) := by
  intro i hi
  rw [hL i hi]
  by_cases e : i = t
  · subst e; simp [hp]
  · have e2 : (i < t + 1) ↔ (i < t) := by omega
    simp [pw_ne e, e2]
theorem pw_ne0 {X : Nat → Bool} (c : ¬ pw_ms X = 0) : ∃ k, k < 10 ∧ X k = true := by
  by_cases h : pw_cn X 10 = 0
  · refine absurd (pw_ms_eq0.mpr (fun i hi => ?_)) c
    cases hx : X i with
    | false => rfl
    | true => have := pw_cn_pos hi hx; omega
  · exact pw_cn_ex (by omega)
/-- what heightWith answers -/
def pw_Ph (R : Nat → Nat → Bool) (x r : Int32) : Prop := (pw_th x = false ∧ r = -1) ∨ ∃ t w, t < 10 ∧ x = nI t ∧ r = nI w ∧ pw_HW R t w
theorem pw_Ph.get {R : Nat → Nat → Bool} {t : Nat} {r : Int32} (ht : t < 10) (h : pw_Ph R (nI t) r) : ∃ w, r = nI w ∧ pw_HW R t w := by
  rcases h with ⟨h1, -⟩ | ⟨t2, w, h1, h2, h3, h4⟩
  · exact (pw_tf h1 (pw_th_nI ht)).elim
  · rw [(nI_eq (by omega) (by omega)).mp h2]; exact ⟨w, h3, h4⟩
def pw_Pb (R : Nat → Nat → Bool) (x y r : Int32) : Prop := ((pw_th x && pw_th y) = false ∧ r = -1) ∨ ∃ s t, s < 10 ∧ t < 10 ∧ x = nI s ∧ y = nI t ∧ r = pw_bI (R s t)
set_option maxHeartbeats 4000000 in
set_option maxRecDepth 100000 in
/-- isThing(x) -/
theorem metX0_isThing (l : Launch) (D : va_G) (x : Int32)  : pw_RO l yX0_isThing cX0_isThing 1 (some .boolean) ({ frames := 0, cells := 0, slots := 0, locals := 0 }) D [] [] [.int x] (fun r => r = pw_bI (pw_th x)) := by
  refine Met.ofW (cc := cX0_isThing) (maxL := 1) (ret := (some .boolean)) (by decide) rfl ?_
  intro p e s m args below meth c s₁ B hml hv
  obtain ⟨rfl, hP, hK⟩ := hv
  have hx := B.exec
  have hb := B.bytes
  have hr := B.returns
  have hts := atoms_spec (ws := ws_ yX0_isThing cX0_isThing 1 (some .boolean)) B.pre
  have hts : ∀ w ∈ lw_all, w.before _ s = true := fun w h => hts w (List.mem_cons_of_mem _ h)
  have hown : s.vm.findClass RX0 = some m.cls := findClass_of_methodNamed B.named
  have hlocks := B.notSynchronized
  have hS : va_S pw_no s.heap s.heap [] := va_S.rf
  have hP : va_P D pw_cl [] s.heap := hP
  have hK : va_K D pw_cl [] s := hK
  have hl := lv_entry ([.int x]) (n := 1) (Nat.le_of_ble_eq_true rfl)
  rw [lg_entry_eq]
  generalize (lg_sl ([.int x]) ++ List.replicate (1 - (lg_sl ([.int x])).length) Slot.unset).toArray = ls at hl ⊢
  have hl : lv_has ls 1 [(0, .int x)] := hl
  refine lv_iload_n hx hb dX0_isThing_0 rfl (lv_at hl 0 rfl) ?_
  refine lv_if_lt (tgt := 14) hx hb dX0_isThing_1 (by decide) (fun c1 => ?_) (fun c1 => ?_)
  · have ez : pw_th x = false := pw_th_a c1
    refine lv_iconst (v := 0) hx hb dX0_isThing_14 (by decide +kernel) ?_
    exact pw_ret hx hb hr hlocks hS rfl (by rw [ez]; rfl) dX0_isThing_15
  · refine lv_iload_n hx hb dX0_isThing_4 rfl (lv_at hl 0 rfl) ?_
    refine lv_bipush (v := (nI 9)) hx hb dX0_isThing_5 (by decide +kernel) ?_
    refine lv_icmp_gt (tgt := 14) hx hb dX0_isThing_7 (by decide) (fun c7 => ?_) (fun c7 => ?_)
    · have ez : pw_th x = false := pw_th_b c7
      refine lv_iconst (v := 0) hx hb dX0_isThing_14 (by decide +kernel) ?_
      exact pw_ret hx hb hr hlocks hS rfl (by rw [ez]; rfl) dX0_isThing_15
    · have ez : pw_th x = true := pw_th_c c1 c7
      refine lv_iconst (v := 1) hx hb dX0_isThing_10 (by decide +kernel) ?_
      refine lv_goto (tgt := 15) hx hb dX0_isThing_11 (by decide) ?_
      exact pw_ret hx hb hr hlocks hS rfl (by rw [ez]; rfl) dX0_isThing_15
set_option maxHeartbeats 4000000 in
set_option maxRecDepth 100000 in
/-- size of a set -/
theorem metX0_size (l : Launch) (D : va_G) (P : Nat → Bool)  : pw_RO l yX0_size cX0_size 3 (some .int) ({ frames := 0, cells := 0, slots := 0, locals := 0 }) D [] [] [.int (pw_ms P)] (fun r => r = nI (pw_cn P 10)) := by
  refine Met.ofW (cc := cX0_size) (maxL := 3) (ret := (some .int)) (by decide) rfl ?_
  intro p e s m args below meth c s₁ B hml hv
  obtain ⟨rfl, hP, hK⟩ := hv
  have hx := B.exec
  have hb := B.bytes
  have hr := B.returns
  have hts := atoms_spec (ws := ws_ yX0_size cX0_size 3 (some .int)) B.pre
  have hts : ∀ w ∈ lw_all, w.before _ s = true := fun w h => hts w (List.mem_cons_of_mem _ h)
  have hown : s.vm.findClass RX0 = some m.cls := findClass_of_methodNamed B.named
  have hlocks := B.notSynchronized
  have hS : va_S pw_no s.heap s.heap [] := va_S.rf
  have hP : va_P D pw_cl [] s.heap := hP
  have hK : va_K D pw_cl [] s := hK
  have hl := lv_entry ([.int (pw_ms P)]) (n := 3) (Nat.le_of_ble_eq_true rfl)
  rw [lg_entry_eq]
  generalize (lg_sl ([.int (pw_ms P)]) ++ List.replicate (3 - (lg_sl ([.int (pw_ms P)])).length) Slot.unset).toArray = ls at hl ⊢
  have hl : lv_has ls 3 [(0, .int (pw_ms P))] := hl
  refine lv_iconst (v := (nI 0)) hx hb dX0_size_0 (by decide +kernel) ?_
  refine lv_istore_n (lv' := [(1, .int (nI 0)), (0, .int (pw_ms P))]) hx hb dX0_size_1 rfl hl (by decide) rfl (fun ls hl => ?_)
  refine lv_iconst (v := (nI 0)) hx hb dX0_size_2 (by decide +kernel) ?_
  refine lv_istore_n (lv' := [(2, .int (nI 0)), (1, .int (nI 0)), (0, .int (pw_ms P))]) hx hb dX0_size_3 rfl hl (by decide) rfl (fun ls hl => ?_)
  have LOOP4 : ∀ (n : Nat) (t : Nat), t ≤ 10 → 10 + 1 ≤ t + n → ∀ (H : Heap) (locs : List Loc), va_S pw_no s.heap H locs → ∀ (ls : Array Slot), lv_has ls 3 [(0, .int (pw_ms P)), (1, .int (nI (pw_cn P t))), (2, .int (nI t))] → W p l e (headSpec (ws_ yX0_size cX0_size 3 (some .int)) ({ frames := 0, cells := 0, slots := 0, locals := 0 })).room s m ([.int (pw_ms P)] : List Value).toArray below meth c H locs 0 0 (MQ below (pw_Q (fun r => r = nI (pw_cn P 10))) ([.int (pw_ms P)] : List Value).toArray s 0 0 pw_no) (F0 m 4 ls []) := by
    intro n
    induction n with
    | zero =>
      intro t hi hn
      exfalso; omega
    | succ n ih4 =>
      intro t hi hn H locs hS ls hl
      refine lv_iload_n hx hb dX0_size_4 rfl (lv_at hl 2 rfl) ?_
      refine lv_bipush (v := (nI 10)) hx hb dX0_size_5 (by decide +kernel) ?_
      refine lv_icmp_ge (tgt := 24) hx hb dX0_size_7 (by decide) (fun c7 => ?_) (fun c7 => ?_)
      · have ht : t = 10 := pw_ge c7 hi (by decide)
        refine lv_iload_n hx hb dX0_size_24 rfl (lv_at hl 1 rfl) ?_
        exact pw_ret hx hb hr hlocks hS rfl (by rw [ht]) dX0_size_25
      · have ht : t < 10 := pw_lt c7 hi (by decide)
        refine lv_iload_n hx hb dX0_size_10 rfl (lv_at hl 1 rfl) ?_
        refine lv_iload_n hx hb dX0_size_11 rfl (lv_at hl 0 rfl) ?_
        refine lv_iload_n hx hb dX0_size_12 rfl (lv_at hl 2 rfl) ?_
        refine lv_iushr (v := (((pw_ms P)).toUInt32 >>> (((nI t)).toUInt32 &&& Int32.toUInt32 31)).toInt32) hx hb dX0_size_13 rfl ?_
        refine lv_iconst (v := 1) hx hb dX0_size_14 (by decide +kernel) ?_
        refine lv_iand hx hb dX0_size_15 ?_
        refine pw_top (y := (pw_bI (P t))) (pw_ms_bit P ht) ?_
        refine lv_iadd hx hb dX0_size_16 ?_
        refine pw_top (y := (nI (pw_cn P (t + 1)))) (pw_cn_inc P t) ?_
        refine lv_istore_n (lv' := [(1, .int (nI (pw_cn P (t + 1)))), (0, .int (pw_ms P)), (2, .int (nI t))]) hx hb dX0_size_17 rfl hl (by decide) rfl (fun ls hl => ?_)
        refine lv_iinc (v := (nI (t + 1))) (lv' := [(2, .int (nI (t + 1))), (1, .int (nI (pw_cn P (t + 1)))), (0, .int (pw_ms P))]) hx hb dX0_size_18 hl (k := 2) rfl (pw_inc _) (by decide) rfl (fun ls hl => ?_)
        refine lv_goto (tgt := 4) hx hb dX0_size_21 (by decide) ?_
        exact ih4 (t + 1) (by omega) (by omega) _ _ hS ls (lv_sub hl [2, 1, 0] rfl)
  exact LOOP4 11 0 (by omega) (by omega) _ _ hS ls (lv_sub hl [2, 1, 0] rfl)
set_option maxHeartbeats 4000000 in
set_option maxRecDepth 100000 in
/-- pairs() -/
theorem metX0_pairs (l : Launch) (D : va_G) (d : ClassId) (h : Nat → Nat) (R : Nat → Nat → Bool) (fa fb fn fp fr fq : Nat → Int32) (fe : Int32) (hR : pw_Rep R fa fb) : pw_RO l yX0_pairs cX0_pairs 3 (some .int) ({ frames := 1, cells := 0, slots := 0, locals := 22 }) D (pw_X0 d h fa fb fn fp fr fq fe) [(d, .int)] [.ref (h 0)] (fun r => r = nI (pw_prs R 10)) := by
  refine Met.ofW (cc := cX0_pairs) (maxL := 3) (ret := (some .int)) (by decide) rfl ?_
  intro p e s m args below meth c s₁ B hml hv
  obtain ⟨rfl, hP, hK⟩ := hv
  have hx := B.exec
  have hb := B.bytes
  have hr := B.returns
  have hts := atoms_spec (ws := ws_ yX0_pairs cX0_pairs 3 (some .int)) B.pre
  have hts : ∀ w ∈ lw_all, w.before _ s = true := fun w h => hts w (List.mem_cons_of_mem _ h)
  have hown : s.vm.findClass RX0 = some m.cls := findClass_of_methodNamed B.named
  have hlocks := B.notSynchronized
  have hS : va_S pw_no s.heap s.heap [] := va_S.rf
  have hP : va_P D pw_cl (pw_X0 d h fa fb fn fp fr fq fe) s.heap := hP
  have hK : va_K D pw_cl [(d, .int)] s := hK
  have hl := lv_entry ([.ref (h 0)]) (n := 3) (Nat.le_of_ble_eq_true rfl)
  rw [lg_entry_eq]
  generalize (lg_sl ([.ref (h 0)]) ++ List.replicate (3 - (lg_sl ([.ref (h 0)])).length) Slot.unset).toArray = ls at hl ⊢
  have hl : lv_has ls 3 [(0, .ref (h 0))] := hl
  refine lv_iconst (v := (nI 0)) hx hb dX0_pairs_0 (by decide +kernel) ?_
  refine lv_istore_n (lv' := [(1, .int (nI 0)), (0, .ref (h 0))]) hx hb dX0_pairs_1 rfl hl (by decide) rfl (fun ls hl => ?_)
  refine lv_iconst (v := (nI 0)) hx hb dX0_pairs_2 (by decide +kernel) ?_
  refine lv_istore_n (lv' := [(2, .int (nI 0)), (1, .int (nI 0)), (0, .ref (h 0))]) hx hb dX0_pairs_3 rfl hl (by decide) rfl (fun ls hl => ?_)
  have LOOP4 : ∀ (n : Nat) (t : Nat), t ≤ 10 → 10 + 1 ≤ t + n → ∀ (H : Heap) (locs : List Loc), va_P D pw_cl (pw_X0 d h fa fb fn fp fr fq fe) H → va_S pw_no s.heap H locs → ∀ (ls : Array Slot), lv_has ls 3 [(0, .ref (h 0)), (1, .int (nI (pw_prs R t))), (2, .int (nI t))] → W p l e (headSpec (ws_ yX0_pairs cX0_pairs 3 (some .int)) ({ frames := 1, cells := 0, slots := 0, locals := 22 })).room s m ([.ref (h 0)] : List Value).toArray below meth c H locs 0 0 (MQ below (pw_Q (fun r => r = nI (pw_prs R 10))) ([.ref (h 0)] : List Value).toArray s 0 0 pw_no) (F0 m 4 ls []) := by
    intro n
    induction n with
    | zero =>
      intro t hi hn
      exfalso; omega
    | succ n ih4 =>
      intro t hi hn H locs hP hS ls hl
      refine lv_iload_n hx hb dX0_pairs_4 rfl (lv_at hl 2 rfl) ?_
      refine lv_bipush (v := (nI 10)) hx hb dX0_pairs_5 (by decide +kernel) ?_
      refine lv_icmp_ge (tgt := 28) hx hb dX0_pairs_7 (by decide) (fun c7 => ?_) (fun c7 => ?_)
      · have ht : t = 10 := pw_ge c7 hi (by decide)
        refine lv_iload_n hx hb dX0_pairs_28 rfl (lv_at hl 1 rfl) ?_
        exact pw_ret hx hb hr hlocks hS rfl (by rw [ht]) dX0_pairs_29
      · have ht : t < 10 := pw_lt c7 hi (by decide)
        refine lv_iload_n hx hb dX0_pairs_10 rfl (lv_at hl 1 rfl) ?_
        refine lv_aload_n hx hb dX0_pairs_11 rfl (lv_at hl 0 rfl) ?_
        refine va_get (D := D) (ci := 0) (v := .ref (h 1)) (C := RX0) (T := TX0) (N := 7) hx hb hts in_X0 hown hK hP 0 rfl rfl 0 (by decide) (hts _ q23) (fun _ h9 => h9) rfl dX0_pairs_12 ?_
        refine lv_iload_n hx hb dX0_pairs_15 rfl (lv_at hl 2 rfl) ?_
        refine pw_iald hx hb hK hP 1 0 rfl rfl ht (by decide) dX0_pairs_16 ?_
        refine pw_top (y := (pw_ms (R t))) (hR.1 t ht) ?_
        refine pw_callS (As := [.int (pw_ms (R t))]) (rest := [.int (nI (pw_prs R t))]) ⟨hx, hb, hml, hown, hts⟩ (metX0_size l D (R t)) (va_cwS 1 hts (lw_S q57 q58 q13 q59) rfl rfl rfl (by decide +kernel) ⟨Nat.le_of_ble_eq_true rfl, Nat.le_of_ble_eq_true rfl⟩) hK hS rfl hl.1 rfl (Nat.le_of_ble_eq_true rfl) dX0_pairs_17 ⟨Nat.zero_le _, Nat.zero_le _⟩ (fun r1 H locs er1 hk hS => ?_)
        have hP := pw_keep hP hk
        subst er1
        refine lv_iadd hx hb dX0_pairs_20 ?_
        refine pw_top (y := (nI (pw_prs R (t + 1)))) (nI_add _ _) ?_
        refine lv_istore_n (lv' := [(1, .int (nI (pw_prs R (t + 1)))), (0, .ref (h 0)), (2, .int (nI t))]) hx hb dX0_pairs_21 rfl hl (by decide) rfl (fun ls hl => ?_)
        refine lv_iinc (v := (nI (t + 1))) (lv' := [(2, .int (nI (t + 1))), (1, .int (nI (pw_prs R (t + 1)))), (0, .ref (h 0))]) hx hb dX0_pairs_22 hl (k := 2) rfl (pw_inc _) (by decide) rfl (fun ls hl => ?_)
        refine lv_goto (tgt := 4) hx hb dX0_pairs_25 (by decide) ?_
        exact ih4 (t + 1) (by omega) (by omega) _ _ hP hS ls (lv_sub hl [2, 1, 0] rfl)
  exact LOOP4 11 0 (by omega) (by omega) _ _ hP hS ls (lv_sub hl [2, 1, 0] rfl)
set_option maxHeartbeats 4000000 in
set_option maxRecDepth 100000 in
/-- besides(t) -/
theorem metX0_besides (l : Launch) (D : va_G) (d : ClassId) (h : Nat → Nat) (R : Nat → Nat → Bool) (fa fb fn fp fr fq : Nat → Int32) (fe : Int32) (t : Nat) (hR : pw_Rep R fa fb) (ht : t < 10) : pw_RO l yX0_besides cX0_besides 2 (some .int) ({ frames := 0, cells := 0, slots := 0, locals := 0 }) D (pw_X0 d h fa fb fn fp fr fq fe) [(d, .int)] [.ref (h 0), .int (nI t)] (fun r => r = pw_ms (pw_bes R t)) := by
  refine Met.ofW (cc := cX0_besides) (maxL := 2) (ret := (some .int)) (by decide) rfl ?_
  intro p e s m args below meth c s₁ B hml hv
  obtain ⟨rfl, hP, hK⟩ := hv
  have hx := B.exec
  have hb := B.bytes
  have hr := B.returns
  have hts := atoms_spec (ws := ws_ yX0_besides cX0_besides 2 (some .int)) B.pre
  have hts : ∀ w ∈ lw_all, w.before _ s = true := fun w h => hts w (List.mem_cons_of_mem _ h)
  have hown : s.vm.findClass RX0 = some m.cls := findClass_of_methodNamed B.named
  have hlocks := B.notSynchronized
  have hS : va_S pw_no s.heap s.heap [] := va_S.rf
  have hP : va_P D pw_cl (pw_X0 d h fa fb fn fp fr fq fe) s.heap := hP
  have hK : va_K D pw_cl [(d, .int)] s := hK
  have hl := lv_entry ([.ref (h 0), .int (nI t)]) (n := 2) (Nat.le_of_ble_eq_true rfl)
  rw [lg_entry_eq]
  generalize (lg_sl ([.ref (h 0), .int (nI t)]) ++ List.replicate (2 - (lg_sl ([.ref (h 0), .int (nI t)])).length) Slot.unset).toArray = ls at hl ⊢
  have hl : lv_has ls 2 [(0, .ref (h 0)), (1, .int (nI t))] := hl
  refine lv_sipush (v := 1023) hx hb dX0_besides_0 (by decide +kernel) ?_
  refine lv_aload_n hx hb dX0_besides_3 rfl (lv_at hl 0 rfl) ?_
  refine va_get (D := D) (ci := 0) (v := .ref (h 1)) (C := RX0) (T := TX0) (N := 7) hx hb hts in_X0 hown hK hP 0 rfl rfl 0 (by decide) (hts _ q23) (fun _ h9 => h9) rfl dX0_besides_4 ?_
  refine lv_iload_n hx hb dX0_besides_7 rfl (lv_at hl 1 rfl) ?_
  refine pw_iald hx hb hK hP 1 0 rfl rfl ht (by decide) dX0_besides_8 ?_
  refine pw_top (y := (pw_ms (R t))) (hR.1 t ht) ?_
  refine lv_aload_n hx hb dX0_besides_9 rfl (lv_at hl 0 rfl) ?_
  refine va_get (D := D) (ci := 0) (v := .ref (h 2)) (C := RX0) (T := TX0) (N := 7) hx hb hts in_X0 hown hK hP 0 rfl rfl 1 (by decide) (hts _ q24) (fun _ h9 => h9) rfl dX0_besides_10 ?_
  refine lv_iload_n hx hb dX0_besides_13 rfl (lv_at hl 1 rfl) ?_
  refine pw_iald hx hb hK hP 2 0 rfl rfl ht (by decide) dX0_besides_14 ?_
  refine pw_top (y := (pw_ms (fun u => R u t))) (hR.2 t ht) ?_
  refine lv_ior hx hb dX0_besides_15 ?_
  refine pw_top (y := (pw_ms (fun i => R t i || R i t))) (pw_ms_or _ _) ?_
  refine lv_iconst (v := 1) hx hb dX0_besides_16 (by decide +kernel) ?_
  refine lv_iload_n hx hb dX0_besides_17 rfl (lv_at hl 1 rfl) ?_
  refine lv_ishl hx hb dX0_besides_18 ?_
  refine pw_top (y := (pw_ms (fun i => i == t))) (pw_ms_one t ht) ?_
  refine lv_ior hx hb dX0_besides_19 ?_
  refine pw_top (y := (pw_ms (fun i => (R t i || R i t) || (i == t)))) (pw_ms_or _ _) ?_
  refine lv_iconst (v := (-1)) hx hb dX0_besides_20 (by decide +kernel) ?_
  refine lv_ixor hx hb dX0_besides_21 ?_
  refine lv_iand hx hb dX0_besides_22 ?_
  refine pw_top (y := (pw_ms (pw_bes R t))) (pw_ms_not _) ?_
  exact pw_ret hx hb hr hlocks hS rfl (rfl) dX0_besides_23
set_option maxHeartbeats 4000000 in
set_option maxRecDepth 100000 in
/-- firstOnes(T) -/
theorem metX0_firstOnes (l : Launch) (D : va_G) (d : ClassId) (h : Nat → Nat) (R : Nat → Nat → Bool) (fa fb fn fp fr fq : Nat → Int32) (fe : Int32) (T : Nat → Bool) (hR : pw_Rep R fa fb) : pw_RO l yX0_firstOnes cX0_firstOnes 4 (some .int) ({ frames := 0, cells := 0, slots := 0, locals := 0 }) D (pw_X0 d h fa fb fn fp fr fq fe) [(d, .int)] [.ref (h 0), .int (pw_ms T)] (fun r => r = pw_ms (pw_lay R T)) := by
  refine Met.ofW (cc := cX0_firstOnes) (maxL := 4) (ret := (some .int)) (by decide) rfl ?_
  intro p e s m args below meth c s₁ B hml hv
  obtain ⟨rfl, hP, hK⟩ := hv
  have hx := B.exec
  have hb := B.bytes
  have hr := B.returns
  have hts := atoms_spec (ws := ws_ yX0_firstOnes cX0_firstOnes 4 (some .int)) B.pre
  have hts : ∀ w ∈ lw_all, w.before _ s = true := fun w h => hts w (List.mem_cons_of_mem _ h)
  have hown : s.vm.findClass RX0 = some m.cls := findClass_of_methodNamed B.named
  have hlocks := B.notSynchronized
  have hS : va_S pw_no s.heap s.heap [] := va_S.rf
  have hP : va_P D pw_cl (pw_X0 d h fa fb fn fp fr fq fe) s.heap := hP
  have hK : va_K D pw_cl [(d, .int)] s := hK
  have hl := lv_entry ([.ref (h 0), .int (pw_ms T)]) (n := 4) (Nat.le_of_ble_eq_true rfl)
  rw [lg_entry_eq]
  generalize (lg_sl ([.ref (h 0), .int (pw_ms T)]) ++ List.replicate (4 - (lg_sl ([.ref (h 0), .int (pw_ms T)])).length) Slot.unset).toArray = ls at hl ⊢
  have hl : lv_has ls 4 [(0, .ref (h 0)), (1, .int (pw_ms T))] := hl
  refine lv_iconst (v := 0) hx hb dX0_firstOnes_0 (by decide +kernel) ?_
  refine pw_top (y := (pw_ms (fun _ => false))) (pw_ms_0) ?_
  refine lv_istore_n (lv' := [(2, .int (pw_ms (fun _ => false))), (0, .ref (h 0)), (1, .int (pw_ms T))]) hx hb dX0_firstOnes_1 rfl hl (by decide) rfl (fun ls hl => ?_)
  refine lv_iconst (v := (nI 0)) hx hb dX0_firstOnes_2 (by decide +kernel) ?_
  refine lv_istore_n (lv' := [(3, .int (nI 0)), (2, .int (pw_ms (fun _ => false))), (0, .ref (h 0)), (1, .int (pw_ms T))]) hx hb dX0_firstOnes_3 rfl hl (by decide) rfl (fun ls hl => ?_)
  have LOOP4 : ∀ (n : Nat) (t : Nat) (L : Nat → Bool), t ≤ 10 → 10 + 1 ≤ t + n → (∀ i, i < 10 → L i = (decide (i < t) && pw_lay R T i)) → ∀ (H : Heap) (locs : List Loc), va_P D pw_cl (pw_X0 d h fa fb fn fp fr fq fe) H → va_S pw_no s.heap H locs → ∀ (ls : Array Slot), lv_has ls 4 [(0, .ref (h 0)), (1, .int (pw_ms T)), (2, .int (pw_ms L)), (3, .int (nI t))] → W p l e (headSpec (ws_ yX0_firstOnes cX0_firstOnes 4 (some .int)) ({ frames := 0, cells := 0, slots := 0, locals := 0 })).room s m ([.ref (h 0), .int (pw_ms T)] : List Value).toArray below meth c H locs 0 0 (MQ below (pw_Q (fun r => r = pw_ms (pw_lay R T))) ([.ref (h 0), .int (pw_ms T)] : List Value).toArray s 0 0 pw_no) (F0 m 4 ls []) := by
    intro n
    induction n with
    | zero =>
      intro t L hi hn hL
      exfalso; omega
    | succ n ih4 =>
      intro t L hi hn hL H locs hP hS ls hl
      refine lv_iload_n hx hb dX0_firstOnes_4 rfl (lv_at hl 3 rfl) ?_
      refine lv_bipush (v := (nI 10)) hx hb dX0_firstOnes_5 (by decide +kernel) ?_
      refine lv_icmp_ge (tgt := 41) hx hb dX0_firstOnes_7 (by decide) (fun c7 => ?_) (fun c7 => ?_)
      · have ht : t = 10 := pw_ge c7 hi (by decide)
        refine lv_iload_n hx hb dX0_firstOnes_41 rfl (lv_at hl 2 rfl) ?_
        exact pw_ret hx hb hr hlocks hS rfl (pw_ms_ext (fun i hi9 => by rw [hL i hi9, ht]; simp [hi9])) dX0_firstOnes_42
      · have ht : t < 10 := pw_lt c7 hi (by decide)
        refine lv_iload_n hx hb dX0_firstOnes_10 rfl (lv_at hl 1 rfl) ?_
        refine lv_iload_n hx hb dX0_firstOnes_11 rfl (lv_at hl 3 rfl) ?_
        refine lv_iushr (v := (((pw_ms T)).toUInt32 >>> (((nI t)).toUInt32 &&& Int32.toUInt32 31)).toInt32) hx hb dX0_firstOnes_12 rfl ?_
        refine lv_iconst (v := 1) hx hb dX0_firstOnes_13 (by decide +kernel) ?_
        refine lv_iand hx hb dX0_firstOnes_14 ?_
        refine pw_top (y := (pw_bI (T t))) (pw_ms_bit T ht) ?_
        refine lv_if_eq (tgt := 35) hx hb dX0_firstOnes_15 (by decide) (fun c15 => ?_) (fun c15 => ?_)
        · have hy := pw_lay_c (R := R) (pw_bI_0.mp c15)
          refine lv_iinc (v := (nI (t + 1))) (lv' := [(3, .int (nI (t + 1))), (0, .ref (h 0)), (1, .int (pw_ms T)), (2, .int (pw_ms L))]) hx hb dX0_firstOnes_35 hl (k := 3) rfl (pw_inc _) (by decide) rfl (fun ls hl => ?_)
          refine lv_goto (tgt := 4) hx hb dX0_firstOnes_38 (by decide) ?_
          exact ih4 (t + 1) L (by omega) (by omega) (pw_bel_no hL hy) _ _ hP hS ls (lv_sub hl [1, 2, 3, 0] rfl)
        · have cT : T t = true := pw_bI_n.mp c15
          refine lv_aload_n hx hb dX0_firstOnes_18 rfl (lv_at hl 0 rfl) ?_
          refine va_get (D := D) (ci := 0) (v := .ref (h 2)) (C := RX0) (T := TX0) (N := 7) hx hb hts in_X0 hown hK hP 0 rfl rfl 1 (by decide) (hts _ q24) (fun _ h9 => h9) rfl dX0_firstOnes_19 ?_
          refine lv_iload_n hx hb dX0_firstOnes_22 rfl (lv_at hl 3 rfl) ?_
          refine pw_iald hx hb hK hP 2 0 rfl rfl ht (by decide) dX0_firstOnes_23 ?_
          refine pw_top (y := (pw_ms (fun u => R u t))) (hR.2 t ht) ?_
          refine lv_iload_n hx hb dX0_firstOnes_24 rfl (lv_at hl 1 rfl) ?_
          refine lv_iand hx hb dX0_firstOnes_25 ?_
          refine pw_top (y := (pw_ms (fun u => R u t && T u))) (pw_ms_and _ _) ?_
          refine lv_if_ne (tgt := 35) hx hb dX0_firstOnes_26 (by decide) (fun c26 => ?_) (fun c26 => ?_)
          · have hy := pw_lay_a c26
            refine lv_iinc (v := (nI (t + 1))) (lv' := [(3, .int (nI (t + 1))), (0, .ref (h 0)), (1, .int (pw_ms T)), (2, .int (pw_ms L))]) hx hb dX0_firstOnes_35 hl (k := 3) rfl (pw_inc _) (by decide) rfl (fun ls hl => ?_)
            refine lv_goto (tgt := 4) hx hb dX0_firstOnes_38 (by decide) ?_
            exact ih4 (t + 1) L (by omega) (by omega) (pw_bel_no hL hy) _ _ hP hS ls (lv_sub hl [1, 2, 3, 0] rfl)
          · have hy := pw_lay_b cT c26
            refine lv_iload_n hx hb dX0_firstOnes_29 rfl (lv_at hl 2 rfl) ?_
            refine lv_iconst (v := 1) hx hb dX0_firstOnes_30 (by decide +kernel) ?_
            refine lv_iload_n hx hb dX0_firstOnes_31 rfl (lv_at hl 3 rfl) ?_
            refine lv_ishl hx hb dX0_firstOnes_32 ?_
            refine pw_top (y := (pw_ms (fun i => i == t))) (pw_ms_one t ht) ?_
            refine lv_ior hx hb dX0_firstOnes_33 ?_
            refine pw_top (y := (pw_ms (fun i => L i || (i == t)))) (pw_ms_or _ _) ?_
            refine lv_istore_n (lv' := [(2, .int (pw_ms (fun i => L i || (i == t)))), (0, .ref (h 0)), (1, .int (pw_ms T)), (3, .int (nI t))]) hx hb dX0_firstOnes_34 rfl hl (by decide) rfl (fun ls hl => ?_)
            refine lv_iinc (v := (nI (t + 1))) (lv' := [(3, .int (nI (t + 1))), (2, .int (pw_ms (fun i => L i || (i == t)))), (0, .ref (h 0)), (1, .int (pw_ms T))]) hx hb dX0_firstOnes_35 hl (k := 3) rfl (pw_inc _) (by decide) rfl (fun ls hl => ?_)
            refine lv_goto (tgt := 4) hx hb dX0_firstOnes_38 (by decide) ?_
            exact ih4 (t + 1) (fun i => L i || (i == t)) (by omega) (by omega) (pw_bel_yes hL hy) _ _ hP hS ls (lv_sub hl [2, 3, 1, 0] rfl)
  exact LOOP4 11 0 (fun _ => false) (by omega) (by omega) (fun i _ => by simp) _ _ hP hS ls (lv_sub hl [2, 3, 1, 0] rfl)
set_option maxHeartbeats 4000000 in
set_option maxRecDepth 100000 in
/-- longest(P) -/
theorem metX0_longest (l : Launch) (D : va_G) (d : ClassId) (h : Nat → Nat) (R : Nat → Nat → Bool) (fa fb fn fp fr fq : Nat → Int32) (fe : Int32) (P : Nat → Bool) (hR : pw_Rep R fa fb) (hO : pw_Ord R) : pw_RO l yX0_longest cX0_longest 6 (some .int) ({ frames := 1, cells := 0, slots := 0, locals := 23 }) D (pw_X0 d h fa fb fn fp fr fq fe) [(d, .int)] [.ref (h 0), .int (pw_ms P)] (fun r => ∃ w, r = nI w ∧ pw_Height R P w) := by
  refine Met.ofW (cc := cX0_longest) (maxL := 6) (ret := (some .int)) (by decide) rfl ?_
  intro p e s m args below meth c s₁ B hml hv
  obtain ⟨rfl, hP, hK⟩ := hv
  have hx := B.exec
  have hb := B.bytes
  have hr := B.returns
  have hts := atoms_spec (ws := ws_ yX0_longest cX0_longest 6 (some .int)) B.pre
  have hts : ∀ w ∈ lw_all, w.before _ s = true := fun w h => hts w (List.mem_cons_of_mem _ h)
  have hown : s.vm.findClass RX0 = some m.cls := findClass_of_methodNamed B.named
  have hlocks := B.notSynchronized
  have hS : va_S pw_no s.heap s.heap [] := va_S.rf
  have hP : va_P D pw_cl (pw_X0 d h fa fb fn fp fr fq fe) s.heap := hP
  have hK : va_K D pw_cl [(d, .int)] s := hK
  have hl := lv_entry ([.ref (h 0), .int (pw_ms P)]) (n := 6) (Nat.le_of_ble_eq_true rfl)
  rw [lg_entry_eq]
  generalize (lg_sl ([.ref (h 0), .int (pw_ms P)]) ++ List.replicate (6 - (lg_sl ([.ref (h 0), .int (pw_ms P)])).length) Slot.unset).toArray = ls at hl ⊢
  have hl : lv_has ls 6 [(0, .ref (h 0)), (1, .int (pw_ms P))] := hl
  refine lv_iconst (v := (nI 0)) hx hb dX0_longest_0 (by decide +kernel) ?_
  refine lv_istore_n (lv' := [(2, .int (nI 0)), (0, .ref (h 0)), (1, .int (pw_ms P))]) hx hb dX0_longest_1 rfl hl (by decide) rfl (fun ls hl => ?_)
  refine lv_iconst (v := 0) hx hb dX0_longest_2 (by decide +kernel) ?_
  refine pw_top (y := (pw_ms (fun _ => false))) (pw_ms_0) ?_
  refine lv_istore_n (lv' := [(3, .int (pw_ms (fun _ => false))), (2, .int (nI 0)), (0, .ref (h 0)), (1, .int (pw_ms P))]) hx hb dX0_longest_3 rfl hl (by decide) rfl (fun ls hl => ?_)
  refine lv_iconst (v := (nI 0)) hx hb dX0_longest_4 (by decide +kernel) ?_
  refine lv_istore (lv' := [(4, .int (nI 0)), (3, .int (pw_ms (fun _ => false))), (2, .int (nI 0)), (0, .ref (h 0)), (1, .int (pw_ms P))]) hx hb dX0_longest_5 hl (by decide) rfl (fun ls hl => ?_)
  have LOOP7 : ∀ (n : Nat) (t k : Nat) (X : Nat → Bool), t ≤ 10 → 10 + 1 ≤ t + n → pw_HI R P t X k → ∀ (H : Heap) (locs : List Loc), va_P D pw_cl (pw_X0 d h fa fb fn fp fr fq fe) H → va_S pw_no s.heap H locs → ∀ (ls : Array Slot), lv_has ls 6 [(0, .ref (h 0)), (1, .int (pw_ms P)), (2, .int (nI k)), (3, .int (pw_ms X)), (4, .int (nI t))] → W p l e (headSpec (ws_ yX0_longest cX0_longest 6 (some .int)) ({ frames := 1, cells := 0, slots := 0, locals := 23 })).room s m ([.ref (h 0), .int (pw_ms P)] : List Value).toArray below meth c H locs 0 0 (MQ below (pw_Q (fun r => ∃ w, r = nI w ∧ pw_Height R P w)) ([.ref (h 0), .int (pw_ms P)] : List Value).toArray s 0 0 pw_no) (F0 m 7 ls []) := by
    intro n
    induction n with
    | zero =>
      intro t k X hi hn hH
      exfalso; omega
    | succ n ih7 =>
      intro t k X hi hn hH H locs hP hS ls hl
      refine lv_iload hx hb dX0_longest_7 (lv_at hl 4 rfl) ?_
      refine lv_bipush (v := (nI 10)) hx hb dX0_longest_9 (by decide +kernel) ?_
      refine lv_icmp_ge (tgt := 44) hx hb dX0_longest_11 (by decide) (fun c11 => ?_) (fun c11 => ?_)
      · have ht : t = 10 := pw_ge c11 hi (by decide)
        refine lv_iload_n hx hb dX0_longest_44 rfl (lv_at hl 2 rfl) ?_
        exact pw_ret hx hb hr hlocks hS rfl (⟨k, rfl, (by rw [ht] at hH; exact hH.height)⟩) dX0_longest_45
      · have ht : t < 10 := pw_lt c11 hi (by decide)
        refine lv_aload_n hx hb dX0_longest_14 rfl (lv_at hl 0 rfl) ?_
        refine lv_iload_n hx hb dX0_longest_15 rfl (lv_at hl 1 rfl) ?_
        refine lv_iload_n hx hb dX0_longest_16 rfl (lv_at hl 3 rfl) ?_
        refine lv_iconst (v := (-1)) hx hb dX0_longest_17 (by decide +kernel) ?_
        refine lv_ixor hx hb dX0_longest_18 ?_
        refine lv_iand hx hb dX0_longest_19 ?_
        refine pw_top (y := (pw_ms (fun i => P i && !X i))) (pw_ms_andn _ _) ?_
        refine pw_callV (As := [.int (pw_ms (fun i => P i && !X i))]) (rest := []) ⟨hx, hb, hml, hown, hts⟩ (metX0_firstOnes l D d h R fa fb fn fp fr fq fe (fun i => P i && !X i) hR) (cwV 1 hts (lw_V q116 q118 qs7 q13 q119) rfl rfl rfl (by decide +kernel) ⟨Nat.le_of_ble_eq_true rfl, Nat.le_of_ble_eq_true rfl⟩) hK hP [0] rfl (ci := 0) rfl rfl rfl hS rfl hl.1 rfl (Nat.le_of_ble_eq_true rfl) dX0_longest_20 ⟨Nat.zero_le _, Nat.zero_le _⟩ (fun r1 H locs er1 hk hS => ?_)
        have hP := pw_keep hP hk
        subst er1
        refine lv_istore (lv' := [(5, .int (pw_ms (pw_lay R (fun i => P i && !X i)))), (0, .ref (h 0)), (1, .int (pw_ms P)), (2, .int (nI k)), (3, .int (pw_ms X)), (4, .int (nI t))]) hx hb dX0_longest_23 hl (by decide) rfl (fun ls hl => ?_)
        refine lv_iload hx hb dX0_longest_25 (lv_at hl 0 rfl) ?_
        refine lv_if_eq (tgt := 33) hx hb dX0_longest_27 (by decide) (fun c27 => ?_) (fun c27 => ?_)
        · have hy := pw_HI.keep hO hH (pw_ms_eq0.mp c27)
          refine lv_iload_n hx hb dX0_longest_33 rfl (lv_at hl 4 rfl) ?_
          refine lv_iload hx hb dX0_longest_34 (lv_at hl 0 rfl) ?_
          refine lv_ior hx hb dX0_longest_36 ?_
          refine pw_top (y := (pw_ms (fun i => X i || pw_lay R (fun i => P i && !X i) i))) (pw_ms_or _ _) ?_
          refine lv_istore_n (lv' := [(3, .int (pw_ms (fun i => X i || pw_lay R (fun i => P i && !X i) i))), (5, .int (pw_ms (pw_lay R (fun i => P i && !X i)))), (0, .ref (h 0)), (1, .int (pw_ms P)), (2, .int (nI k)), (4, .int (nI t))]) hx hb dX0_longest_37 rfl hl (by decide) rfl (fun ls hl => ?_)
          refine lv_iinc (v := (nI (t + 1))) (lv' := [(4, .int (nI (t + 1))), (3, .int (pw_ms (fun i => X i || pw_lay R (fun i => P i && !X i) i))), (5, .int (pw_ms (pw_lay R (fun i => P i && !X i)))), (0, .ref (h 0)), (1, .int (pw_ms P)), (2, .int (nI k))]) hx hb dX0_longest_38 hl (k := 5) rfl (pw_inc _) (by decide) rfl (fun ls hl => ?_)
          refine lv_goto (tgt := 7) hx hb dX0_longest_41 (by decide) ?_
          exact ih7 (t + 1) k (fun i => X i || pw_lay R (fun i => P i && !X i) i) (by omega) (by omega) hy _ _ hP hS ls (lv_sub hl [3, 4, 5, 1, 0] rfl)
        · obtain ⟨k9, hk9, hlk⟩ := pw_ne0 c27
          have hy := pw_HI.more hO hH hk9 hlk
          refine lv_iinc (v := (nI (k + 1))) (lv' := [(2, .int (nI (k + 1))), (5, .int (pw_ms (pw_lay R (fun i => P i && !X i)))), (0, .ref (h 0)), (1, .int (pw_ms P)), (3, .int (pw_ms X)), (4, .int (nI t))]) hx hb dX0_longest_30 hl (k := 3) rfl (pw_inc _) (by decide) rfl (fun ls hl => ?_)
          refine lv_iload_n hx hb dX0_longest_33 rfl (lv_at hl 4 rfl) ?_
          refine lv_iload hx hb dX0_longest_34 (lv_at hl 1 rfl) ?_
          refine lv_ior hx hb dX0_longest_36 ?_
          refine pw_top (y := (pw_ms (fun i => X i || pw_lay R (fun i => P i && !X i) i))) (pw_ms_or _ _) ?_
          refine lv_istore_n (lv' := [(3, .int (pw_ms (fun i => X i || pw_lay R (fun i => P i && !X i) i))), (2, .int (nI (k + 1))), (5, .int (pw_ms (pw_lay R (fun i => P i && !X i)))), (0, .ref (h 0)), (1, .int (pw_ms P)), (4, .int (nI t))]) hx hb dX0_longest_37 rfl hl (by decide) rfl (fun ls hl => ?_)
          refine lv_iinc (v := (nI (t + 1))) (lv' := [(4, .int (nI (t + 1))), (3, .int (pw_ms (fun i => X i || pw_lay R (fun i => P i && !X i) i))), (2, .int (nI (k + 1))), (5, .int (pw_ms (pw_lay R (fun i => P i && !X i)))), (0, .ref (h 0)), (1, .int (pw_ms P))]) hx hb dX0_longest_38 hl (k := 5) rfl (pw_inc _) (by decide) rfl (fun ls hl => ?_)
          refine lv_goto (tgt := 7) hx hb dX0_longest_41 (by decide) ?_
          exact ih7 (t + 1) (k + 1) (fun i => X i || pw_lay R (fun i => P i && !X i) i) (by omega) (by omega) hy _ _ hP hS ls (lv_sub hl [4, 5, 2, 1, 0] rfl)
  exact LOOP7 11 0 0 (fun _ => false) (by omega) (by omega) (pw_HI.start R P) _ _ hP hS ls (lv_sub hl [3, 4, 2, 1, 0] rfl)
set_option maxHeartbeats 4000000 in
set_option maxRecDepth 100000 in
/-- heightWith(x) -/
theorem metX0_heightWith (l : Launch) (D : va_G) (d : ClassId) (h : Nat → Nat) (R : Nat → Nat → Bool) (fa fb fn fp fr fq : Nat → Int32) (fe : Int32) (x : Int32) (hR : pw_Rep R fa fb) (hO : pw_Ord R) : pw_RO l yX0_heightWith cX0_heightWith 2 (some .int) ({ frames := 2, cells := 0, slots := 0, locals := 48 }) D (pw_X0 d h fa fb fn fp fr fq fe) [(d, .int)] [.ref (h 0), .int x] (pw_Ph R x) := by
  refine Met.ofW (cc := cX0_heightWith) (maxL := 2) (ret := (some .int)) (by decide) rfl ?_
  intro p e s m args below meth c s₁ B hml hv
  obtain ⟨rfl, hP, hK⟩ := hv
  have hx := B.exec
  have hb := B.bytes
  have hr := B.returns
  have hts := atoms_spec (ws := ws_ yX0_heightWith cX0_heightWith 2 (some .int)) B.pre
  have hts : ∀ w ∈ lw_all, w.before _ s = true := fun w h => hts w (List.mem_cons_of_mem _ h)
  have hown : s.vm.findClass RX0 = some m.cls := findClass_of_methodNamed B.named
  have hlocks := B.notSynchronized
  have hS : va_S pw_no s.heap s.heap [] := va_S.rf
  have hP : va_P D pw_cl (pw_X0 d h fa fb fn fp fr fq fe) s.heap := hP
  have hK : va_K D pw_cl [(d, .int)] s := hK
  have hl := lv_entry ([.ref (h 0), .int x]) (n := 2) (Nat.le_of_ble_eq_true rfl)
  rw [lg_entry_eq]
  generalize (lg_sl ([.ref (h 0), .int x]) ++ List.replicate (2 - (lg_sl ([.ref (h 0), .int x])).length) Slot.unset).toArray = ls at hl ⊢
  have hl : lv_has ls 2 [(0, .ref (h 0)), (1, .int x)] := hl
  refine lv_iload_n hx hb dX0_heightWith_0 rfl (lv_at hl 1 rfl) ?_
  refine pw_callS (As := [.int x]) (rest := []) ⟨hx, hb, hml, hown, hts⟩ (metX0_isThing l D x) (va_cwS 1 hts (lw_S q50 q51 q13 q52) rfl rfl rfl (by decide +kernel) ⟨Nat.le_of_ble_eq_true rfl, Nat.le_of_ble_eq_true rfl⟩) hK hS rfl hl.1 rfl (Nat.le_of_ble_eq_true rfl) dX0_heightWith_1 ⟨Nat.zero_le _, Nat.zero_le _⟩ (fun r1 H locs er1 hk hS => ?_)
  have hP := pw_keep hP hk
  subst er1
  refine lv_if_ne (tgt := 9) hx hb dX0_heightWith_4 (by decide) (fun c4 => ?_) (fun c4 => ?_)
  · obtain ⟨t, ht, rfl⟩ := pw_th_of (pw_bI_n.mp c4)
    refine lv_aload_n hx hb dX0_heightWith_9 rfl (lv_at hl 0 rfl) ?_
    refine lv_aload_n hx hb dX0_heightWith_10 rfl (lv_at hl 0 rfl) ?_
    refine va_get (D := D) (ci := 0) (v := .ref (h 2)) (C := RX0) (T := TX0) (N := 7) hx hb hts in_X0 hown hK hP 0 rfl rfl 1 (by decide) (hts _ q24) (fun _ h9 => h9) rfl dX0_heightWith_11 ?_
    refine lv_iload_n hx hb dX0_heightWith_14 rfl (lv_at hl 1 rfl) ?_
    refine pw_iald hx hb hK hP 2 0 rfl rfl ht (by decide) dX0_heightWith_15 ?_
    refine pw_top (y := (pw_ms (fun u => R u t))) (hR.2 t ht) ?_
    refine pw_callV (As := [.int (pw_ms (fun u => R u t))]) (rest := []) ⟨hx, hb, hml, hown, hts⟩ (metX0_longest l D d h R fa fb fn fp fr fq fe (fun u => R u t) hR hO) (cwV 1 hts (lw_V q112 q114 qs6 q13 q115) rfl rfl rfl (by decide +kernel) ⟨Nat.le_of_ble_eq_true rfl, Nat.le_of_ble_eq_true rfl⟩) hK hP [0] rfl (ci := 0) rfl rfl rfl hS rfl hl.1 rfl (Nat.le_of_ble_eq_true rfl) dX0_heightWith_16 ⟨Nat.zero_le _, Nat.zero_le _⟩ (fun r2 H locs er2 hk hS => ?_)
    have hP := pw_keep hP hk
    obtain ⟨w1, rfl, hw1⟩ := er2
    refine lv_iconst (v := (nI 1)) hx hb dX0_heightWith_19 (by decide +kernel) ?_
    refine lv_iadd hx hb dX0_heightWith_20 ?_
    refine pw_top (y := (nI (w1 + 1))) (nI_add _ _) ?_
    refine lv_aload_n hx hb dX0_heightWith_21 rfl (lv_at hl 0 rfl) ?_
    refine lv_aload_n hx hb dX0_heightWith_22 rfl (lv_at hl 0 rfl) ?_
    refine va_get (D := D) (ci := 0) (v := .ref (h 1)) (C := RX0) (T := TX0) (N := 7) hx hb hts in_X0 hown hK hP 0 rfl rfl 0 (by decide) (hts _ q23) (fun _ h9 => h9) rfl dX0_heightWith_23 ?_
    refine lv_iload_n hx hb dX0_heightWith_26 rfl (lv_at hl 1 rfl) ?_
    refine pw_iald hx hb hK hP 1 0 rfl rfl ht (by decide) dX0_heightWith_27 ?_
    refine pw_top (y := (pw_ms (R t))) (hR.1 t ht) ?_
    refine pw_callV (As := [.int (pw_ms (R t))]) (rest := [.int (nI (w1 + 1))]) ⟨hx, hb, hml, hown, hts⟩ (metX0_longest l D d h R fa fb fn fp fr fq fe (R t) hR hO) (cwV 1 hts (lw_V q112 q114 qs6 q13 q115) rfl rfl rfl (by decide +kernel) ⟨Nat.le_of_ble_eq_true rfl, Nat.le_of_ble_eq_true rfl⟩) hK hP [0] rfl (ci := 0) rfl rfl rfl hS rfl hl.1 rfl (Nat.le_of_ble_eq_true rfl) dX0_heightWith_28 ⟨Nat.zero_le _, Nat.zero_le _⟩ (fun r3 H locs er3 hk hS => ?_)
    have hP := pw_keep hP hk
    obtain ⟨w2, rfl, hw2⟩ := er3
    refine lv_iadd hx hb dX0_heightWith_31 ?_
    refine pw_top (y := (nI (w1 + 1 + w2))) (nI_add _ _) ?_
    exact pw_ret hx hb hr hlocks hS rfl (Or.inr ⟨t, _, ht, rfl, rfl, pw_HW.of hO ht hw1 hw2⟩) dX0_heightWith_32
  · have ez : pw_th x = false := pw_bI_0.mp c4
    refine lv_iconst (v := (-1)) hx hb dX0_heightWith_7 (by decide +kernel) ?_
    exact pw_ret hx hb hr hlocks hS rfl (Or.inl ⟨ez, rfl⟩) dX0_heightWith_8
set_option maxHeartbeats 4000000 in
set_option maxRecDepth 100000 in
/-- height() -/
theorem metX0_height (l : Launch) (D : va_G) (d : ClassId) (h : Nat → Nat) (R : Nat → Nat → Bool) (fa fb fn fp fr fq : Nat → Int32) (fe : Int32) (hR : pw_Rep R fa fb) (hO : pw_Ord R) : pw_RO l yX0_height cX0_height 4 (some .int) ({ frames := 3, cells := 0, slots := 0, locals := 69 }) D (pw_X0 d h fa fb fn fp fr fq fe) [(d, .int)] [.ref (h 0)] (fun r => ∃ w, r = nI w ∧ pw_Height R (fun _ => true) w) := by
  refine Met.ofW (cc := cX0_height) (maxL := 4) (ret := (some .int)) (by decide) rfl ?_
  intro p e s m args below meth c s₁ B hml hv
  obtain ⟨rfl, hP, hK⟩ := hv
  have hx := B.exec
  have hb := B.bytes
  have hr := B.returns
  have hts := atoms_spec (ws := ws_ yX0_height cX0_height 4 (some .int)) B.pre
  have hts : ∀ w ∈ lw_all, w.before _ s = true := fun w h => hts w (List.mem_cons_of_mem _ h)
  have hown : s.vm.findClass RX0 = some m.cls := findClass_of_methodNamed B.named
  have hlocks := B.notSynchronized
  have hS : va_S pw_no s.heap s.heap [] := va_S.rf
  have hP : va_P D pw_cl (pw_X0 d h fa fb fn fp fr fq fe) s.heap := hP
  have hK : va_K D pw_cl [(d, .int)] s := hK
  have hl := lv_entry ([.ref (h 0)]) (n := 4) (Nat.le_of_ble_eq_true rfl)
  rw [lg_entry_eq]
  generalize (lg_sl ([.ref (h 0)]) ++ List.replicate (4 - (lg_sl ([.ref (h 0)])).length) Slot.unset).toArray = ls at hl ⊢
  have hl : lv_has ls 4 [(0, .ref (h 0))] := hl
  refine lv_iconst (v := (nI 0)) hx hb dX0_height_0 (by decide +kernel) ?_
  refine lv_istore_n (lv' := [(1, .int (nI 0)), (0, .ref (h 0))]) hx hb dX0_height_1 rfl hl (by decide) rfl (fun ls hl => ?_)
  refine lv_iconst (v := (nI 0)) hx hb dX0_height_2 (by decide +kernel) ?_
  refine lv_istore_n (lv' := [(2, .int (nI 0)), (1, .int (nI 0)), (0, .ref (h 0))]) hx hb dX0_height_3 rfl hl (by decide) rfl (fun ls hl => ?_)
  have LOOP4 : ∀ (n : Nat) (t k : Nat), t ≤ 10 → 10 + 1 ≤ t + n → pw_GI R t k → ∀ (H : Heap) (locs : List Loc), va_P D pw_cl (pw_X0 d h fa fb fn fp fr fq fe) H → va_S pw_no s.heap H locs → ∀ (ls : Array Slot), lv_has ls 4 [(0, .ref (h 0)), (1, .int (nI k)), (2, .int (nI t))] → W p l e (headSpec (ws_ yX0_height cX0_height 4 (some .int)) ({ frames := 3, cells := 0, slots := 0, locals := 69 })).room s m ([.ref (h 0)] : List Value).toArray below meth c H locs 0 0 (MQ below (pw_Q (fun r => ∃ w, r = nI w ∧ pw_Height R (fun _ => true) w)) ([.ref (h 0)] : List Value).toArray s 0 0 pw_no) (F0 m 4 ls []) := by
    intro n
    induction n with
    | zero =>
      intro t k hi hn hG
      exfalso; omega
    | succ n ih4 =>
      intro t k hi hn hG H locs hP hS ls hl
      refine lv_iload_n hx hb dX0_height_4 rfl (lv_at hl 2 rfl) ?_
      refine lv_bipush (v := (nI 10)) hx hb dX0_height_5 (by decide +kernel) ?_
      refine lv_icmp_ge (tgt := 33) hx hb dX0_height_7 (by decide) (fun c7 => ?_) (fun c7 => ?_)
      · have ht : t = 10 := pw_ge c7 hi (by decide)
        refine lv_iload_n hx hb dX0_height_33 rfl (lv_at hl 1 rfl) ?_
        exact pw_ret hx hb hr hlocks hS rfl (⟨k, rfl, (by rw [ht] at hG; exact hG.height)⟩) dX0_height_34
      · have ht : t < 10 := pw_lt c7 hi (by decide)
        refine lv_aload_n hx hb dX0_height_10 rfl (lv_at hl 0 rfl) ?_
        refine lv_iload_n hx hb dX0_height_11 rfl (lv_at hl 2 rfl) ?_
        refine pw_callV (As := [.int (nI t)]) (rest := []) ⟨hx, hb, hml, hown, hts⟩ (metX0_heightWith l D d h R fa fb fn fp fr fq fe (nI t) hR hO) (cwV 1 hts (lw_V q108 q109 q110 q13 q111) rfl rfl rfl (by decide +kernel) ⟨Nat.le_of_ble_eq_true rfl, Nat.le_of_ble_eq_true rfl⟩) hK hP [0] rfl (ci := 0) rfl rfl rfl hS rfl hl.1 rfl (Nat.le_of_ble_eq_true rfl) dX0_height_12 ⟨Nat.zero_le _, Nat.zero_le _⟩ (fun r1 H locs er1 hk hS => ?_)
        have hP := pw_keep hP hk
        obtain ⟨w1, rfl, hw1⟩ := pw_Ph.get ht er1
        have hb1 := hw1.le
        have hb2 := hG.le
        refine lv_istore_n (lv' := [(3, .int (nI w1)), (0, .ref (h 0)), (1, .int (nI k)), (2, .int (nI t))]) hx hb dX0_height_15 rfl hl (by decide) rfl (fun ls hl => ?_)
        refine lv_iload_n hx hb dX0_height_16 rfl (lv_at hl 0 rfl) ?_
        refine lv_iload_n hx hb dX0_height_17 rfl (lv_at hl 2 rfl) ?_
        refine lv_icmp_le (tgt := 25) hx hb dX0_height_18 (by decide) (fun c18 => ?_) (fun c18 => ?_)
        · have hy := hG.keep hw1 ((nI_leI (by omega) (by omega)).mp c18)
          refine lv_iload_n hx hb dX0_height_25 rfl (lv_at hl 2 rfl) ?_
          refine lv_istore_n (lv' := [(1, .int (nI k)), (3, .int (nI w1)), (0, .ref (h 0)), (2, .int (nI t))]) hx hb dX0_height_26 rfl hl (by decide) rfl (fun ls hl => ?_)
          refine lv_iinc (v := (nI (t + 1))) (lv' := [(2, .int (nI (t + 1))), (1, .int (nI k)), (3, .int (nI w1)), (0, .ref (h 0))]) hx hb dX0_height_27 hl (k := 3) rfl (pw_inc _) (by decide) rfl (fun ls hl => ?_)
          refine lv_goto (tgt := 4) hx hb dX0_height_30 (by decide) ?_
          exact ih4 (t + 1) k (by omega) (by omega) hy _ _ hP hS ls (lv_sub hl [3, 1, 0] rfl)
        · have hy := hG.more hw1 (Nat.le_of_lt (Nat.not_le.mp (fun z => c18 ((nI_leI (by omega) (by omega)).mpr z))))
          refine lv_iload_n hx hb dX0_height_21 rfl (lv_at hl 0 rfl) ?_
          refine lv_goto (tgt := 26) hx hb dX0_height_22 (by decide) ?_
          refine lv_istore_n (lv' := [(1, .int (nI w1)), (3, .int (nI w1)), (0, .ref (h 0)), (2, .int (nI t))]) hx hb dX0_height_26 rfl hl (by decide) rfl (fun ls hl => ?_)
          refine lv_iinc (v := (nI (t + 1))) (lv' := [(2, .int (nI (t + 1))), (1, .int (nI w1)), (3, .int (nI w1)), (0, .ref (h 0))]) hx hb dX0_height_27 hl (k := 3) rfl (pw_inc _) (by decide) rfl (fun ls hl => ?_)
          refine lv_goto (tgt := 4) hx hb dX0_height_30 (by decide) ?_
          exact ih4 (t + 1) w1 (by omega) (by omega) hy _ _ hP hS ls (lv_sub hl [3, 1, 0] rfl)
  exact LOOP4 11 0 0 (by omega) (by omega) (pw_GI.start R) _ _ hP hS ls (lv_sub hl [2, 1, 0] rfl)
set_option maxHeartbeats 4000000 in
set_option maxRecDepth 100000 in
/-- before(x, y) -/
theorem metX0_before (l : Launch) (D : va_G) (d : ClassId) (h : Nat → Nat) (R : Nat → Nat → Bool) (fa fb fn fp fr fq : Nat → Int32) (fe : Int32) (x y : Int32) (hR : pw_Rep R fa fb) : pw_RO l yX0_before cX0_before 3 (some .int) ({ frames := 1, cells := 0, slots := 0, locals := 20 }) D (pw_X0 d h fa fb fn fp fr fq fe) [(d, .int)] [.ref (h 0), .int x, .int y] (pw_Pb R x y) := by
  refine Met.ofW (cc := cX0_before) (maxL := 3) (ret := (some .int)) (by decide) rfl ?_
  intro p e s m args below meth c s₁ B hml hv
  obtain ⟨rfl, hP, hK⟩ := hv
  have hx := B.exec
  have hb := B.bytes
  have hr := B.returns
  have hts := atoms_spec (ws := ws_ yX0_before cX0_before 3 (some .int)) B.pre
  have hts : ∀ w ∈ lw_all, w.before _ s = true := fun w h => hts w (List.mem_cons_of_mem _ h)
  have hown : s.vm.findClass RX0 = some m.cls := findClass_of_methodNamed B.named
  have hlocks := B.notSynchronized
  have hS : va_S pw_no s.heap s.heap [] := va_S.rf
  have hP : va_P D pw_cl (pw_X0 d h fa fb fn fp fr fq fe) s.heap := hP
  have hK : va_K D pw_cl [(d, .int)] s := hK
  have hl := lv_entry ([.ref (h 0), .int x, .int y]) (n := 3) (Nat.le_of_ble_eq_true rfl)
  rw [lg_entry_eq]
  generalize (lg_sl ([.ref (h 0), .int x, .int y]) ++ List.replicate (3 - (lg_sl ([.ref (h 0), .int x, .int y])).length) Slot.unset).toArray = ls at hl ⊢
  have hl : lv_has ls 3 [(0, .ref (h 0)), (1, .int x), (2, .int y)] := hl
  refine lv_iload_n hx hb dX0_before_0 rfl (lv_at hl 1 rfl) ?_
  refine pw_callS (As := [.int x]) (rest := []) ⟨hx, hb, hml, hown, hts⟩ (metX0_isThing l D x) (va_cwS 1 hts (lw_S q50 q51 q13 q52) rfl rfl rfl (by decide +kernel) ⟨Nat.le_of_ble_eq_true rfl, Nat.le_of_ble_eq_true rfl⟩) hK hS rfl hl.1 rfl (Nat.le_of_ble_eq_true rfl) dX0_before_1 ⟨Nat.zero_le _, Nat.zero_le _⟩ (fun r1 H locs er1 hk hS => ?_)
  have hP := pw_keep hP hk
  subst er1
  refine lv_if_eq (tgt := 27) hx hb dX0_before_4 (by decide) (fun c4 => ?_) (fun c4 => ?_)
  · have ez : (pw_th x && pw_th y) = false := by rw [pw_bI_0.mp c4]; rfl
    refine lv_iconst (v := (-1)) hx hb dX0_before_27 (by decide +kernel) ?_
    exact pw_ret hx hb hr hlocks hS rfl (Or.inl ⟨ez, rfl⟩) dX0_before_28
  · have e1 : pw_th x = true := pw_bI_n.mp c4
    refine lv_iload_n hx hb dX0_before_7 rfl (lv_at hl 2 rfl) ?_
    refine pw_callS (As := [.int y]) (rest := []) ⟨hx, hb, hml, hown, hts⟩ (metX0_isThing l D y) (va_cwS 1 hts (lw_S q50 q51 q13 q52) rfl rfl rfl (by decide +kernel) ⟨Nat.le_of_ble_eq_true rfl, Nat.le_of_ble_eq_true rfl⟩) hK hS rfl hl.1 rfl (Nat.le_of_ble_eq_true rfl) dX0_before_8 ⟨Nat.zero_le _, Nat.zero_le _⟩ (fun r2 H locs er2 hk hS => ?_)
    have hP := pw_keep hP hk
    subst er2
    refine lv_if_eq (tgt := 27) hx hb dX0_before_11 (by decide) (fun c11 => ?_) (fun c11 => ?_)
    · have ez : (pw_th x && pw_th y) = false := by rw [pw_bI_0.mp c11]; simp
      refine lv_iconst (v := (-1)) hx hb dX0_before_27 (by decide +kernel) ?_
      exact pw_ret hx hb hr hlocks hS rfl (Or.inl ⟨ez, rfl⟩) dX0_before_28
    · obtain ⟨t, ht, rfl⟩ := pw_th_of e1
      obtain ⟨u, hu, rfl⟩ := pw_th_of (pw_bI_n.mp c11)
      refine lv_aload_n hx hb dX0_before_14 rfl (lv_at hl 0 rfl) ?_
      refine va_get (D := D) (ci := 0) (v := .ref (h 1)) (C := RX0) (T := TX0) (N := 7) hx hb hts in_X0 hown hK hP 0 rfl rfl 0 (by decide) (hts _ q23) (fun _ h9 => h9) rfl dX0_before_15 ?_
      refine lv_iload_n hx hb dX0_before_18 rfl (lv_at hl 1 rfl) ?_
      refine pw_iald hx hb hK hP 1 0 rfl rfl ht (by decide) dX0_before_19 ?_
      refine pw_top (y := (pw_ms (R t))) (hR.1 t ht) ?_
      refine lv_iload_n hx hb dX0_before_20 rfl (lv_at hl 2 rfl) ?_
      refine lv_iushr (v := (((pw_ms (R t))).toUInt32 >>> (((nI u)).toUInt32 &&& Int32.toUInt32 31)).toInt32) hx hb dX0_before_21 rfl ?_
      refine lv_iconst (v := 1) hx hb dX0_before_22 (by decide +kernel) ?_
      refine lv_iand hx hb dX0_before_23 ?_
      refine pw_top (y := (pw_bI (R t u))) (pw_ms_bit (R t) hu) ?_
      refine lv_goto (tgt := 28) hx hb dX0_before_24 (by decide) ?_
      exact pw_ret hx hb hr hlocks hS rfl (Or.inr ⟨t, u, ht, hu, rfl, rfl, rfl⟩) dX0_before_28
end
section
/-! ===== PosetWidthModel ===== -/
theorem pw_th_d {x : Int32} (h1 : ¬ x < 0) (h2 : x ≤ nI 9) : pw_th x = true := by simp [pw_th, h1, h2]
theorem pw_th_e {x : Int32} (h2 : ¬ x ≤ nI 9) : pw_th x = false := by simp [pw_th, h2]
theorem pw_Rz.at {R : Nat → Nat → Bool} {z : Nat → Int32} (h : pw_Rz R z) {i : Nat} (hi : i < 100) : z i = pw_bI (R (i / 10) (i % 10)) := by
  rw [← h (i / 10) (i % 10) (by omega) (by omega)]
  congr 1
  omega
theorem pw_nb0 {b : Bool} (h : pw_bI (!b) = 0) : b = true := by
  have := pw_bI_0.mp h
  simpa using this
theorem pw_nbn {b : Bool} (h : ¬ pw_bI (!b) = 0) : b = false := by
  have := pw_bI_n.mp h
  simpa using this
theorem pw_fit_s {R : Nat → Nat → Bool} {P : Nat → Bool} {ch : Bool} {t : Nat} (hF : ∀ a b, a < t → b < a → P a = true → P b = true → (R a b || R b a) = ch) (hG : ∀ b, b < t → P t = true → P b = true → (R t b || R b t) = ch) : ∀ a b, a < t + 1 → b < a → P a = true → P b = true → (R a b || R b a) = ch := by
  intro a b ha hb
  by_cases e : a = t
  · subst e; exact hG b hb
  · exact hF a b (by omega) hb
theorem pw_sub_iff {K I : Nat → Bool} : pw_ms (fun i => K i && I i) = pw_ms I ↔ ∀ i, i < 10 → I i = true → K i = true := by
  constructor
  · intro h i hi hI
    have := pw_ms_inj h i hi
    simpa [hI] using this
  · intro h
    refine pw_ms_ext (fun i hi => ?_)
    cases hI : I i with
    | false => simp
    | true => simp [h i hi hI]
theorem pw_dis_iff {K O : Nat → Bool} : pw_ms (fun i => K i && O i) = 0 ↔ ∀ i, i < 10 → O i = true → K i = false := by
  rw [pw_ms_eq0]
  constructor
  · intro h i hi hO
    have := h i hi
    simpa [hO] using this
  · intro h i hi
    cases hO : O i with
    | false => simp
    | true => simp [h i hi hO]
theorem pw_oI_neg2 {o : Option Nat} (ho : ∀ j, o = some j → j < 2 ^ 31) : pw_oI o < 0 ↔ o = none := by
  cases o with
  | none => exact ⟨fun _ => rfl, fun _ => by decide⟩
  | some j => exact ⟨fun h => absurd h (nI_pos (ho j rfl)), fun h => by cases h⟩
theorem pw_oI_some {o : Option Nat} (h : ¬ pw_oI o < 0) : ∃ j, o = some j := by
  cases o with
  | none => exact absurd (by decide) h
  | some j => exact ⟨j, rfl⟩
theorem pw_GB.lt {R : Nat → Nat → Bool} {I O : Nat → Bool} {ch : Bool} {n j : Nat} (h : pw_GB R I O ch n (some j)) : j < n := h.1
theorem pw_oI_ge {o : Option Nat} (h : 0 ≤ pw_oI o) : ∃ j, o = some j := by
  cases o with
  | none => exact absurd h (by decide)
  | some j => exact ⟨j, rfl⟩
theorem pw_oI_nge {o : Option Nat} (ho : ∀ j, o = some j → j < 2 ^ 31) (h : ¬ 0 ≤ pw_oI o) : o = none := by
  cases o with
  | none => rfl
  | some j => exact absurd (nI_pos' (ho j rfl)) h
/-- an answer about the thing x -/
def pw_Pt (F : Nat → Nat → Prop) (x r : Int32) : Prop := (pw_th x = false ∧ r = -1) ∨ ∃ t w, t < 10 ∧ x = nI t ∧ r = nI w ∧ F t w
def pw_Pc (R : Nat → Nat → Bool) (x r : Int32) : Prop := (pw_th x = false ∧ r = -1) ∨ ∃ t j, t < 10 ∧ x = nI t ∧ r = pw_bI (pw_tb j t) ∧ pw_Best R (fun _ => false) (fun _ => false) false 1024 j
def pw_Pp (R : Nat → Nat → Bool) (x y r : Int32) (keep : Prop) (got : (Nat → Nat → Bool) → Prop) : Prop := (r = -1 ∧ keep ∧ ∀ a b, a < 10 → b < 10 → x = nI a → y = nI b → a = b ∨ R b a = true) ∨ ∃ a b, a < 10 ∧ b < 10 ∧ x = nI a ∧ y = nI b ∧ a ≠ b ∧ R b a = false ∧ r = nI (pw_prs (pw_put R a b) 10) ∧ got (pw_put R a b)
def pw_Pr (R : Nat → Nat → Bool) (x r : Int32) (keep : Prop) (got : (Nat → Nat → Bool) → Prop) : Prop := (pw_th x = false ∧ r = -1 ∧ keep) ∨ ∃ t, t < 10 ∧ x = nI t ∧ r = nI (pw_prs (pw_rel R t) 10) ∧ got (pw_rel R t)
def pw_sd (R : Nat → Nat → Bool) (v : Nat) (up : Bool) : Nat → Bool := fun i => if up = true then R v i else R i v
theorem pw_Fit.nil (R : Nat → Nat → Bool) (ch : Bool) : pw_Fit R ch (fun _ => false) := fun a b _ _ h => by cases h
theorem pw_best_any {R : Nat → Nat → Bool} {ch : Bool} {o : Option Nat} (h : pw_GB R (fun _ => false) (fun _ => false) ch 1024 o) : ∃ j, o = some j ∧ pw_Best R (fun _ => false) (fun _ => false) ch 1024 j := pw_Best.uniq h (Q := fun _ => false) (fun _ _ h => by cases h) (fun _ _ h => by cases h) (pw_Fit.nil R ch)
theorem pw_Rz.set {R R2 : Nat → Nat → Bool} {z : Nat → Int32} {s t : Nat} (b : Bool) (h : pw_Rz R z) (hs : s < 10) (ht : t < 10) (h1 : R2 s t = b) (h2 : ∀ x y, x < 10 → y < 10 → ¬ (x = s ∧ y = t) → R2 x y = R x y) : pw_Rz R2 (upd z (10 * s + t) (pw_bI b)) := by
  intro x y hx hy
  by_cases e : x = s ∧ y = t
  · obtain ⟨rfl, rfl⟩ := e
    rw [pk_us, h1]
  · rw [pk_un (by omega), h x y hx hy, h2 x y hx hy e]
theorem pw_Rz.to {R R2 : Nat → Nat → Bool} {z : Nat → Int32} (h : pw_Rz R z) (e : ∀ x y, x < 10 → y < 10 → R2 x y = R x y) : pw_Rz R2 z := fun x y hx hy => by rw [h x y hx hy, e x y hx hy]
def pw_rlt (R : Nat → Nat → Bool) (v t : Nat) : Nat → Nat → Bool := fun x y => (R x y && !((y == v) && decide (x < t))) && !((x == v) && decide (y < t))
theorem pw_rlt_s {R : Nat → Nat → Bool} {v t : Nat} {z : Nat → Int32} (hv : v < 10) (ht : t < 10) (h : pw_Rz (pw_rlt R v t) z) : pw_Rz (pw_rlt R v (t + 1)) (upd (upd z (10 * t + v) 0) (10 * v + t) 0) := by
  have h1 : pw_Rz (fun x y => if x = t ∧ y = v then false else pw_rlt R v t x y) (upd z (10 * t + v) (pw_bI false)) := h.set false ht hv (by simp) (fun x y _ _ e => by simp [e])
  refine h1.set false hv ht ?_ ?_
  · simp [pw_rlt]
  · intro x y hx hy e
    show pw_rlt R v (t + 1) x y = if x = t ∧ y = v then false else pw_rlt R v t x y
    by_cases e1 : x = t ∧ y = v
    · rw [if_pos e1]; simp [pw_rlt, e1.1, e1.2]
    · rw [if_neg e1]
      unfold pw_rlt
      by_cases ey : y = v
      · have ex : x ≠ t := fun z => e1 ⟨z, ey⟩
        have l1 : (x < t + 1) ↔ (x < t) := by omega
        by_cases ex2 : x = v
        · have ey2 : y ≠ t := fun z => e ⟨ex2, z⟩
          have l2 : (y < t + 1) ↔ (y < t) := by omega
          simp [l1, l2]
        · simp [l1, pw_ne ex2]
      · by_cases ex2 : x = v
        · have ey2 : y ≠ t := fun z => e ⟨ex2, z⟩
          have l2 : (y < t + 1) ↔ (y < t) := by omega
          simp [l2, pw_ne ey]
        · simp [pw_ne ey, pw_ne ex2]
theorem pw_rlt_0 {R : Nat → Nat → Bool} {v : Nat} {z : Nat → Int32} (h : pw_Rz R z) : pw_Rz (pw_rlt R v 0) z := h.to (fun x y _ _ => by simp [pw_rlt])
theorem pw_rlt_e {R : Nat → Nat → Bool} {v : Nat} {z : Nat → Int32} (h : pw_Rz (pw_rlt R v 10) z) : pw_Rz (pw_rel R v) z := h.to (fun x y hx hy => by
  unfold pw_rlt pw_rel
  simp only [hx, hy, decide_true, Bool.and_true]
  cases R x y <;> cases (x == v) <;> cases (y == v) <;> rfl)
def pw_ps (R : Nat → Nat → Bool) (a b s t : Nat) : Nat → Nat → Bool := fun x y => R x y || ((((x == a) || R x a) && ((y == b) || R b y)) && (decide (x < s) || ((x == s) && decide (y < t))))
theorem pw_ps_low {R : Nat → Nat → Bool} {a b s t x : Nat} (hne : a ≠ b) (hba : R b a = false) : pw_ps R a b s t x a = R x a := by
  have : (a == b) = false := pw_ne hne
  simp [pw_ps, this, hba]
theorem pw_ps_high {R : Nat → Nat → Bool} {a b s t y : Nat} (hne : a ≠ b) (hba : R b a = false) : pw_ps R a b s t b y = R b y := by
  have : (b == a) = false := pw_ne (fun z => hne z.symm)
  simp [pw_ps, this, hba]
theorem pw_ps_no {R : Nat → Nat → Bool} {a b s t : Nat} {z : Nat → Int32} (h : pw_Rz (pw_ps R a b s t) z) (hn : (((s == a) || R s a) && ((t == b) || R b t)) = false) : pw_Rz (pw_ps R a b s (t + 1)) z := h.to (fun x y hx hy => by
  unfold pw_ps
  by_cases e : x = s ∧ y = t
  · rw [e.1, e.2, hn]; simp
  · congr 2
    by_cases ex : x = s
    · have ey : y ≠ t := fun z => e ⟨ex, z⟩
      have l2 : (y < t + 1) ↔ (y < t) := by omega
      simp [l2]
    · simp [pw_ne ex])
theorem pw_ps_yes {R : Nat → Nat → Bool} {a b s t : Nat} {z : Nat → Int32} (hs : s < 10) (ht : t < 10) (h : pw_Rz (pw_ps R a b s t) z) (hn : (((s == a) || R s a) && ((t == b) || R b t)) = true) : pw_Rz (pw_ps R a b s (t + 1)) (upd z (10 * s + t) 1) := by
  refine h.set true hs ht ?_ (fun x y hx hy e => ?_)
  · unfold pw_ps; rw [hn]; simp
  · unfold pw_ps
    congr 2
    by_cases ex : x = s
    · have ey : y ≠ t := fun z => e ⟨ex, z⟩
      have l2 : (y < t + 1) ↔ (y < t) := by omega
      simp [l2]
    · simp [pw_ne ex]
theorem pw_ps_row {R : Nat → Nat → Bool} {a b s : Nat} {z : Nat → Int32} (h : pw_Rz (pw_ps R a b s 10) z) : pw_Rz (pw_ps R a b (s + 1) 0) z := h.to (fun x y hx hy => by
  unfold pw_ps
  congr 2
  by_cases ex : x = s
  · subst ex; simp [hy]
  · have l : (x < s + 1) ↔ (x < s) := by omega
    simp [pw_ne ex, l])
theorem pw_ps_0 {R : Nat → Nat → Bool} {a b : Nat} {z : Nat → Int32} (h : pw_Rz R z) : pw_Rz (pw_ps R a b 0 0) z := h.to (fun x y _ _ => by simp [pw_ps])
theorem pw_ps_e {R : Nat → Nat → Bool} {a b : Nat} {z : Nat → Int32} (h : pw_Rz (pw_ps R a b 10 0) z) : pw_Rz (pw_put R a b) z := h.to (fun x y hx hy => by simp [pw_ps, pw_put, hx])
set_option maxHeartbeats 4000000 in
set_option maxRecDepth 100000 in
/-- bad(x) -/
theorem metX1_bad (l : Launch) (D : va_G) (x : Int32)  : pw_RO l yX1_bad cX1_bad 1 (some .boolean) ({ frames := 0, cells := 0, slots := 0, locals := 0 }) D [] [] [.int x] (fun r => r = pw_bI (!pw_th x)) := by
  refine Met.ofW (cc := cX1_bad) (maxL := 1) (ret := (some .boolean)) (by decide) rfl ?_
  intro p e s m args below meth c s₁ B hml hv
  obtain ⟨rfl, hP, hK⟩ := hv
  have hx := B.exec
  have hb := B.bytes
  have hr := B.returns
  have hts := atoms_spec (ws := ws_ yX1_bad cX1_bad 1 (some .boolean)) B.pre
  have hts : ∀ w ∈ lw_all, w.before _ s = true := fun w h => hts w (List.mem_cons_of_mem _ h)
  have hown : s.vm.findClass RX1 = some m.cls := findClass_of_methodNamed B.named
  have hlocks := B.notSynchronized
  have hS : va_S pw_no s.heap s.heap [] := va_S.rf
  have hP : va_P D pw_cl [] s.heap := hP
  have hK : va_K D pw_cl [] s := hK
  have hl := lv_entry ([.int x]) (n := 1) (Nat.le_of_ble_eq_true rfl)
  rw [lg_entry_eq]
  generalize (lg_sl ([.int x]) ++ List.replicate (1 - (lg_sl ([.int x])).length) Slot.unset).toArray = ls at hl ⊢
  have hl : lv_has ls 1 [(0, .int x)] := hl
  refine lv_iload_n hx hb dX1_bad_0 rfl (lv_at hl 0 rfl) ?_
  refine lv_if_lt (tgt := 10) hx hb dX1_bad_1 (by decide) (fun c1 => ?_) (fun c1 => ?_)
  · have ez : pw_th x = false := pw_th_a c1
    refine lv_iconst (v := 1) hx hb dX1_bad_10 (by decide +kernel) ?_
    refine lv_goto (tgt := 15) hx hb dX1_bad_11 (by decide) ?_
    exact pw_ret hx hb hr hlocks hS rfl (by rw [ez]; rfl) dX1_bad_15
  · refine lv_iload_n hx hb dX1_bad_4 rfl (lv_at hl 0 rfl) ?_
    refine lv_bipush (v := (nI 9)) hx hb dX1_bad_5 (by decide +kernel) ?_
    refine lv_icmp_le (tgt := 14) hx hb dX1_bad_7 (by decide) (fun c7 => ?_) (fun c7 => ?_)
    · have ez : pw_th x = true := pw_th_d c1 c7
      refine lv_iconst (v := 0) hx hb dX1_bad_14 (by decide +kernel) ?_
      exact pw_ret hx hb hr hlocks hS rfl (by rw [ez]; rfl) dX1_bad_15
    · have ez : pw_th x = false := pw_th_e c7
      refine lv_iconst (v := 1) hx hb dX1_bad_10 (by decide +kernel) ?_
      refine lv_goto (tgt := 15) hx hb dX1_bad_11 (by decide) ?_
      exact pw_ret hx hb hr hlocks hS rfl (by rw [ez]; rfl) dX1_bad_15
set_option maxHeartbeats 4000000 in
set_option maxRecDepth 100000 in
/-- ones of a set -/
theorem metX1_ones (l : Launch) (D : va_G) (P : Nat → Bool)  : pw_RO l yX1_ones cX1_ones 3 (some .int) ({ frames := 0, cells := 0, slots := 0, locals := 0 }) D [] [] [.int (pw_ms P)] (fun r => r = nI (pw_cn P 10)) := by
  refine Met.ofW (cc := cX1_ones) (maxL := 3) (ret := (some .int)) (by decide) rfl ?_
  intro p e s m args below meth c s₁ B hml hv
  obtain ⟨rfl, hP, hK⟩ := hv
  have hx := B.exec
  have hb := B.bytes
  have hr := B.returns
  have hts := atoms_spec (ws := ws_ yX1_ones cX1_ones 3 (some .int)) B.pre
  have hts : ∀ w ∈ lw_all, w.before _ s = true := fun w h => hts w (List.mem_cons_of_mem _ h)
  have hown : s.vm.findClass RX1 = some m.cls := findClass_of_methodNamed B.named
  have hlocks := B.notSynchronized
  have hS : va_S pw_no s.heap s.heap [] := va_S.rf
  have hP : va_P D pw_cl [] s.heap := hP
  have hK : va_K D pw_cl [] s := hK
  have hl := lv_entry ([.int (pw_ms P)]) (n := 3) (Nat.le_of_ble_eq_true rfl)
  rw [lg_entry_eq]
  generalize (lg_sl ([.int (pw_ms P)]) ++ List.replicate (3 - (lg_sl ([.int (pw_ms P)])).length) Slot.unset).toArray = ls at hl ⊢
  have hl : lv_has ls 3 [(0, .int (pw_ms P))] := hl
  refine lv_iconst (v := (nI 0)) hx hb dX1_ones_0 (by decide +kernel) ?_
  refine lv_istore_n (lv' := [(1, .int (nI 0)), (0, .int (pw_ms P))]) hx hb dX1_ones_1 rfl hl (by decide) rfl (fun ls hl => ?_)
  refine lv_iconst (v := (nI 0)) hx hb dX1_ones_2 (by decide +kernel) ?_
  refine lv_istore_n (lv' := [(2, .int (nI 0)), (1, .int (nI 0)), (0, .int (pw_ms P))]) hx hb dX1_ones_3 rfl hl (by decide) rfl (fun ls hl => ?_)
  have LOOP4 : ∀ (n : Nat) (t : Nat), t ≤ 10 → 10 + 1 ≤ t + n → ∀ (H : Heap) (locs : List Loc), va_S pw_no s.heap H locs → ∀ (ls : Array Slot), lv_has ls 3 [(0, .int (pw_ms P)), (1, .int (nI (pw_cn P t))), (2, .int (nI t))] → W p l e (headSpec (ws_ yX1_ones cX1_ones 3 (some .int)) ({ frames := 0, cells := 0, slots := 0, locals := 0 })).room s m ([.int (pw_ms P)] : List Value).toArray below meth c H locs 0 0 (MQ below (pw_Q (fun r => r = nI (pw_cn P 10))) ([.int (pw_ms P)] : List Value).toArray s 0 0 pw_no) (F0 m 4 ls []) := by
    intro n
    induction n with
    | zero =>
      intro t hi hn
      exfalso; omega
    | succ n ih4 =>
      intro t hi hn H locs hS ls hl
      refine lv_iload_n hx hb dX1_ones_4 rfl (lv_at hl 2 rfl) ?_
      refine lv_bipush (v := (nI 10)) hx hb dX1_ones_5 (by decide +kernel) ?_
      refine lv_icmp_ge (tgt := 24) hx hb dX1_ones_7 (by decide) (fun c7 => ?_) (fun c7 => ?_)
      · have ht : t = 10 := pw_ge c7 hi (by decide)
        refine lv_iload_n hx hb dX1_ones_24 rfl (lv_at hl 1 rfl) ?_
        exact pw_ret hx hb hr hlocks hS rfl (by rw [ht]) dX1_ones_25
      · have ht : t < 10 := pw_lt c7 hi (by decide)
        refine lv_iload_n hx hb dX1_ones_10 rfl (lv_at hl 1 rfl) ?_
        refine lv_iload_n hx hb dX1_ones_11 rfl (lv_at hl 0 rfl) ?_
        refine lv_iload_n hx hb dX1_ones_12 rfl (lv_at hl 2 rfl) ?_
        refine lv_ishr hx hb dX1_ones_13 ?_
        refine lv_iconst (v := 1) hx hb dX1_ones_14 (by decide +kernel) ?_
        refine lv_iand hx hb dX1_ones_15 ?_
        refine pw_top (y := (pw_bI (P t))) (pw_ms_bitS P ht) ?_
        refine lv_iadd hx hb dX1_ones_16 ?_
        refine pw_top (y := (nI (pw_cn P (t + 1)))) (pw_cn_inc P t) ?_
        refine lv_istore_n (lv' := [(1, .int (nI (pw_cn P (t + 1)))), (0, .int (pw_ms P)), (2, .int (nI t))]) hx hb dX1_ones_17 rfl hl (by decide) rfl (fun ls hl => ?_)
        refine lv_iinc (v := (nI (t + 1))) (lv' := [(2, .int (nI (t + 1))), (1, .int (nI (pw_cn P (t + 1)))), (0, .int (pw_ms P))]) hx hb dX1_ones_18 hl (k := 2) rfl (pw_inc _) (by decide) rfl (fun ls hl => ?_)
        refine lv_goto (tgt := 4) hx hb dX1_ones_21 (by decide) ?_
        exact ih4 (t + 1) (by omega) (by omega) _ _ hS ls (lv_sub hl [2, 1, 0] rfl)
  exact LOOP4 11 0 (by omega) (by omega) _ _ hS ls (lv_sub hl [2, 1, 0] rfl)
set_option maxHeartbeats 4000000 in
set_option maxRecDepth 100000 in
/-- pairs() -/
theorem metX1_pairs (l : Launch) (D : va_G) (d : ClassId) (h : Nat → Nat) (R : Nat → Nat → Bool) (fz : Nat → Int32) (hZ : pw_Rz R fz) : pw_RO l yX1_pairs cX1_pairs 3 (some .int) ({ frames := 0, cells := 0, slots := 0, locals := 0 }) D (pw_X1 d h fz) [(d, .boolean)] [.ref (h 0)] (fun r => r = nI (pw_prs R 10)) := by
  refine Met.ofW (cc := cX1_pairs) (maxL := 3) (ret := (some .int)) (by decide) rfl ?_
  intro p e s m args below meth c s₁ B hml hv
  obtain ⟨rfl, hP, hK⟩ := hv
  have hx := B.exec
  have hb := B.bytes
  have hr := B.returns
  have hts := atoms_spec (ws := ws_ yX1_pairs cX1_pairs 3 (some .int)) B.pre
  have hts : ∀ w ∈ lw_all, w.before _ s = true := fun w h => hts w (List.mem_cons_of_mem _ h)
  have hown : s.vm.findClass RX1 = some m.cls := findClass_of_methodNamed B.named
  have hlocks := B.notSynchronized
  have hS : va_S pw_no s.heap s.heap [] := va_S.rf
  have hP : va_P D pw_cl (pw_X1 d h fz) s.heap := hP
  have hK : va_K D pw_cl [(d, .boolean)] s := hK
  have hl := lv_entry ([.ref (h 0)]) (n := 3) (Nat.le_of_ble_eq_true rfl)
  rw [lg_entry_eq]
  generalize (lg_sl ([.ref (h 0)]) ++ List.replicate (3 - (lg_sl ([.ref (h 0)])).length) Slot.unset).toArray = ls at hl ⊢
  have hl : lv_has ls 3 [(0, .ref (h 0))] := hl
  refine lv_iconst (v := (nI 0)) hx hb dX1_pairs_0 (by decide +kernel) ?_
  refine lv_istore_n (lv' := [(1, .int (nI 0)), (0, .ref (h 0))]) hx hb dX1_pairs_1 rfl hl (by decide) rfl (fun ls hl => ?_)
  refine lv_iconst (v := (nI 0)) hx hb dX1_pairs_2 (by decide +kernel) ?_
  refine lv_istore_n (lv' := [(2, .int (nI 0)), (1, .int (nI 0)), (0, .ref (h 0))]) hx hb dX1_pairs_3 rfl hl (by decide) rfl (fun ls hl => ?_)
  have LOOP4 : ∀ (n : Nat) (t k : Nat), t ≤ 100 → 100 + 1 ≤ t + n → k = pw_cn (fun i => R (i / 10) (i % 10)) t → ∀ (H : Heap) (locs : List Loc), va_P D pw_cl (pw_X1 d h fz) H → va_S pw_no s.heap H locs → ∀ (ls : Array Slot), lv_has ls 3 [(0, .ref (h 0)), (1, .int (nI k)), (2, .int (nI t))] → W p l e (headSpec (ws_ yX1_pairs cX1_pairs 3 (some .int)) ({ frames := 0, cells := 0, slots := 0, locals := 0 })).room s m ([.ref (h 0)] : List Value).toArray below meth c H locs 0 0 (MQ below (pw_Q (fun r => r = nI (pw_prs R 10))) ([.ref (h 0)] : List Value).toArray s 0 0 pw_no) (F0 m 4 ls []) := by
    intro n
    induction n with
    | zero =>
      intro t k hi hn hk
      exfalso; omega
    | succ n ih4 =>
      intro t k hi hn hk H locs hP hS ls hl
      refine lv_iload_n hx hb dX1_pairs_4 rfl (lv_at hl 2 rfl) ?_
      refine lv_bipush (v := (nI 100)) hx hb dX1_pairs_5 (by decide +kernel) ?_
      refine lv_icmp_ge (tgt := 28) hx hb dX1_pairs_7 (by decide) (fun c7 => ?_) (fun c7 => ?_)
      · have ht : t = 100 := pw_ge c7 hi (by decide)
        refine lv_iload_n hx hb dX1_pairs_28 rfl (lv_at hl 1 rfl) ?_
        exact pw_ret hx hb hr hlocks hS rfl (by rw [hk, ht]; exact congrArg nI (pw_prs_flat R 10)) dX1_pairs_29
      · have ht : t < 100 := pw_lt c7 hi (by decide)
        refine lv_aload_n hx hb dX1_pairs_10 rfl (lv_at hl 0 rfl) ?_
        refine va_get (D := D) (ci := 1) (v := .ref (h 1)) (C := RX1) (T := TX1) (N := 1) hx hb hts in_X1 hown hK hP 0 rfl rfl 0 (by decide) (hts _ q131) (fun _ h9 => h9) rfl dX1_pairs_11 ?_
        refine lv_iload_n hx hb dX1_pairs_14 rfl (lv_at hl 2 rfl) ?_
        refine pw_zald hx hb hK hP 1 0 rfl rfl ht (by decide) dX1_pairs_15 ?_
        refine pw_top (y := (pw_bI (R (t / 10) (t % 10)))) (hZ.at ht) ?_
        refine lv_if_eq (tgt := 22) hx hb dX1_pairs_16 (by decide) (fun c16 => ?_) (fun c16 => ?_)
        · have hk2 : k = pw_cn (fun i => R (i / 10) (i % 10)) (t + 1) := by rw [hk]; simp [pw_cn, pw_bI_0.mp c16]
          refine lv_iinc (v := (nI (t + 1))) (lv' := [(2, .int (nI (t + 1))), (0, .ref (h 0)), (1, .int (nI k))]) hx hb dX1_pairs_22 hl (k := 2) rfl (pw_inc _) (by decide) rfl (fun ls hl => ?_)
          refine lv_goto (tgt := 4) hx hb dX1_pairs_25 (by decide) ?_
          exact ih4 (t + 1) k (by omega) (by omega) hk2 _ _ hP hS ls (lv_sub hl [1, 2, 0] rfl)
        · have hk2 : k + 1 = pw_cn (fun i => R (i / 10) (i % 10)) (t + 1) := by rw [hk]; simp [pw_cn, pw_bI_n.mp c16]
          refine lv_iinc (v := (nI (k + 1))) (lv' := [(1, .int (nI (k + 1))), (0, .ref (h 0)), (2, .int (nI t))]) hx hb dX1_pairs_19 hl (k := 1) rfl (pw_inc _) (by decide) rfl (fun ls hl => ?_)
          refine lv_iinc (v := (nI (t + 1))) (lv' := [(2, .int (nI (t + 1))), (1, .int (nI (k + 1))), (0, .ref (h 0))]) hx hb dX1_pairs_22 hl (k := 2) rfl (pw_inc _) (by decide) rfl (fun ls hl => ?_)
          refine lv_goto (tgt := 4) hx hb dX1_pairs_25 (by decide) ?_
          exact ih4 (t + 1) (k + 1) (by omega) (by omega) hk2 _ _ hP hS ls (lv_sub hl [2, 1, 0] rfl)
  exact LOOP4 101 0 0 (by omega) (by omega) rfl _ _ hP hS ls (lv_sub hl [2, 1, 0] rfl)
set_option maxHeartbeats 4000000 in
set_option maxRecDepth 100000 in
/-- before(x, y) -/
theorem metX1_before (l : Launch) (D : va_G) (d : ClassId) (h : Nat → Nat) (R : Nat → Nat → Bool) (fz : Nat → Int32) (x y : Int32) (hZ : pw_Rz R fz) : pw_RO l yX1_before cX1_before 3 (some .int) ({ frames := 1, cells := 0, slots := 0, locals := 20 }) D (pw_X1 d h fz) [(d, .boolean)] [.ref (h 0), .int x, .int y] (pw_Pb R x y) := by
  refine Met.ofW (cc := cX1_before) (maxL := 3) (ret := (some .int)) (by decide) rfl ?_
  intro p e s m args below meth c s₁ B hml hv
  obtain ⟨rfl, hP, hK⟩ := hv
  have hx := B.exec
  have hb := B.bytes
  have hr := B.returns
  have hts := atoms_spec (ws := ws_ yX1_before cX1_before 3 (some .int)) B.pre
  have hts : ∀ w ∈ lw_all, w.before _ s = true := fun w h => hts w (List.mem_cons_of_mem _ h)
  have hown : s.vm.findClass RX1 = some m.cls := findClass_of_methodNamed B.named
  have hlocks := B.notSynchronized
  have hS : va_S pw_no s.heap s.heap [] := va_S.rf
  have hP : va_P D pw_cl (pw_X1 d h fz) s.heap := hP
  have hK : va_K D pw_cl [(d, .boolean)] s := hK
  have hl := lv_entry ([.ref (h 0), .int x, .int y]) (n := 3) (Nat.le_of_ble_eq_true rfl)
  rw [lg_entry_eq]
  generalize (lg_sl ([.ref (h 0), .int x, .int y]) ++ List.replicate (3 - (lg_sl ([.ref (h 0), .int x, .int y])).length) Slot.unset).toArray = ls at hl ⊢
  have hl : lv_has ls 3 [(0, .ref (h 0)), (1, .int x), (2, .int y)] := hl
  refine lv_iload_n hx hb dX1_before_0 rfl (lv_at hl 1 rfl) ?_
  refine pw_callS (As := [.int x]) (rest := []) ⟨hx, hb, hml, hown, hts⟩ (metX1_bad l D x) (va_cwS 1 hts (lw_S q140 q141 q14 q142) rfl rfl rfl (by decide +kernel) ⟨Nat.le_of_ble_eq_true rfl, Nat.le_of_ble_eq_true rfl⟩) hK hS rfl hl.1 rfl (Nat.le_of_ble_eq_true rfl) dX1_before_1 ⟨Nat.zero_le _, Nat.zero_le _⟩ (fun r1 H locs er1 hk hS => ?_)
  have hP := pw_keep hP hk
  subst er1
  refine lv_if_ne (tgt := 14) hx hb dX1_before_4 (by decide) (fun c4 => ?_) (fun c4 => ?_)
  · have ez : (pw_th x && pw_th y) = false := by rw [pw_nbn c4]; rfl
    refine lv_iconst (v := (-1)) hx hb dX1_before_14 (by decide +kernel) ?_
    exact pw_ret hx hb hr hlocks hS rfl (Or.inl ⟨ez, rfl⟩) dX1_before_15
  · have e1 := pw_nb0 c4
    refine lv_iload_n hx hb dX1_before_7 rfl (lv_at hl 2 rfl) ?_
    refine pw_callS (As := [.int y]) (rest := []) ⟨hx, hb, hml, hown, hts⟩ (metX1_bad l D y) (va_cwS 1 hts (lw_S q140 q141 q14 q142) rfl rfl rfl (by decide +kernel) ⟨Nat.le_of_ble_eq_true rfl, Nat.le_of_ble_eq_true rfl⟩) hK hS rfl hl.1 rfl (Nat.le_of_ble_eq_true rfl) dX1_before_8 ⟨Nat.zero_le _, Nat.zero_le _⟩ (fun r2 H locs er2 hk hS => ?_)
    have hP := pw_keep hP hk
    subst er2
    refine lv_if_eq (tgt := 16) hx hb dX1_before_11 (by decide) (fun c11 => ?_) (fun c11 => ?_)
    · obtain ⟨t, ht, rfl⟩ := pw_th_of e1
      obtain ⟨u, hu, rfl⟩ := pw_th_of (pw_nb0 c11)
      refine lv_aload_n hx hb dX1_before_16 rfl (lv_at hl 0 rfl) ?_
      refine va_get (D := D) (ci := 1) (v := .ref (h 1)) (C := RX1) (T := TX1) (N := 1) hx hb hts in_X1 hown hK hP 0 rfl rfl 0 (by decide) (hts _ q131) (fun _ h9 => h9) rfl dX1_before_17 ?_
      refine lv_bipush (v := (nI 10)) hx hb dX1_before_20 (by decide +kernel) ?_
      refine lv_iload_n hx hb dX1_before_22 rfl (lv_at hl 1 rfl) ?_
      refine lv_imul hx hb dX1_before_23 ?_
      refine pw_top (y := (nI (10 * t))) (pk_mul _ _) ?_
      refine lv_iload_n hx hb dX1_before_24 rfl (lv_at hl 2 rfl) ?_
      refine lv_iadd hx hb dX1_before_25 ?_
      refine pw_top (y := (nI (10 * t + u))) (nI_add _ _) ?_
      refine pw_zald hx hb hK hP 1 0 rfl rfl (by omega) (by decide) dX1_before_26 ?_
      refine pw_top (y := (pw_bI (R t u))) (hZ t u ht hu) ?_
      refine lv_if_eq (tgt := 34) hx hb dX1_before_27 (by decide) (fun c27 => ?_) (fun c27 => ?_)
      · have eb := pw_bI_0.mp c27
        refine lv_iconst (v := 0) hx hb dX1_before_34 (by decide +kernel) ?_
        exact pw_ret hx hb hr hlocks hS rfl (Or.inr ⟨t, u, ht, hu, rfl, rfl, (by rw [eb]; rfl)⟩) dX1_before_35
      · have eb := pw_bI_n.mp c27
        refine lv_iconst (v := 1) hx hb dX1_before_30 (by decide +kernel) ?_
        refine lv_goto (tgt := 35) hx hb dX1_before_31 (by decide) ?_
        exact pw_ret hx hb hr hlocks hS rfl (Or.inr ⟨t, u, ht, hu, rfl, rfl, (by rw [eb]; rfl)⟩) dX1_before_35
    · have ez : (pw_th x && pw_th y) = false := by rw [pw_nbn c11]; simp
      refine lv_iconst (v := (-1)) hx hb dX1_before_14 (by decide +kernel) ?_
      exact pw_ret hx hb hr hlocks hS rfl (Or.inl ⟨ez, rfl⟩) dX1_before_15
set_option maxHeartbeats 4000000 in
set_option maxRecDepth 100000 in
/-- fits(set, chain) -/
theorem metX1_fits (l : Launch) (D : va_G) (d : ClassId) (h : Nat → Nat) (R : Nat → Nat → Bool) (fz : Nat → Int32) (P : Nat → Bool) (ch : Bool) (hZ : pw_Rz R fz) : pw_RO l yX1_fits cX1_fits 6 (some .boolean) ({ frames := 0, cells := 0, slots := 0, locals := 0 }) D (pw_X1 d h fz) [(d, .boolean)] [.ref (h 0), .int (pw_ms P), .int (pw_bI ch)] (fun r => ∃ b, r = pw_bI b ∧ (b = true ↔ pw_Fit R ch P)) := by
  refine Met.ofW (cc := cX1_fits) (maxL := 6) (ret := (some .boolean)) (by decide) rfl ?_
  intro p e s m args below meth c s₁ B hml hv
  obtain ⟨rfl, hP, hK⟩ := hv
  have hx := B.exec
  have hb := B.bytes
  have hr := B.returns
  have hts := atoms_spec (ws := ws_ yX1_fits cX1_fits 6 (some .boolean)) B.pre
  have hts : ∀ w ∈ lw_all, w.before _ s = true := fun w h => hts w (List.mem_cons_of_mem _ h)
  have hown : s.vm.findClass RX1 = some m.cls := findClass_of_methodNamed B.named
  have hlocks := B.notSynchronized
  have hS : va_S pw_no s.heap s.heap [] := va_S.rf
  have hP : va_P D pw_cl (pw_X1 d h fz) s.heap := hP
  have hK : va_K D pw_cl [(d, .boolean)] s := hK
  have hl := lv_entry ([.ref (h 0), .int (pw_ms P), .int (pw_bI ch)]) (n := 6) (Nat.le_of_ble_eq_true rfl)
  rw [lg_entry_eq]
  generalize (lg_sl ([.ref (h 0), .int (pw_ms P), .int (pw_bI ch)]) ++ List.replicate (6 - (lg_sl ([.ref (h 0), .int (pw_ms P), .int (pw_bI ch)])).length) Slot.unset).toArray = ls at hl ⊢
  have hl : lv_has ls 6 [(0, .ref (h 0)), (1, .int (pw_ms P)), (2, .int (pw_bI ch))] := hl
  refine lv_iconst (v := (nI 0)) hx hb dX1_fits_0 (by decide +kernel) ?_
  refine lv_istore_n (lv' := [(3, .int (nI 0)), (0, .ref (h 0)), (1, .int (pw_ms P)), (2, .int (pw_bI ch))]) hx hb dX1_fits_1 rfl hl (by decide) rfl (fun ls hl => ?_)
  have LOOP2 : ∀ (n : Nat) (t : Nat), t ≤ 10 → 10 + 1 ≤ t + n → (∀ a b, a < t → b < a → P a = true → P b = true → (R a b || R b a) = ch) → ∀ (H : Heap) (locs : List Loc), va_P D pw_cl (pw_X1 d h fz) H → va_S pw_no s.heap H locs → ∀ (ls : Array Slot), lv_has ls 6 [(0, .ref (h 0)), (1, .int (pw_ms P)), (2, .int (pw_bI ch)), (3, .int (nI t))] → W p l e (headSpec (ws_ yX1_fits cX1_fits 6 (some .boolean)) ({ frames := 0, cells := 0, slots := 0, locals := 0 })).room s m ([.ref (h 0), .int (pw_ms P), .int (pw_bI ch)] : List Value).toArray below meth c H locs 0 0 (MQ below (pw_Q (fun r => ∃ b, r = pw_bI b ∧ (b = true ↔ pw_Fit R ch P))) ([.ref (h 0), .int (pw_ms P), .int (pw_bI ch)] : List Value).toArray s 0 0 pw_no) (F0 m 2 ls []) := by
    intro n
    induction n with
    | zero =>
      intro t hi hn hF
      exfalso; omega
    | succ n ih2 =>
      intro t hi hn hF H locs hP hS ls hl
      refine lv_iload_n hx hb dX1_fits_2 rfl (lv_at hl 3 rfl) ?_
      refine lv_bipush (v := (nI 10)) hx hb dX1_fits_3 (by decide +kernel) ?_
      refine lv_icmp_ge (tgt := 101) hx hb dX1_fits_5 (by decide) (fun c5 => ?_) (fun c5 => ?_)
      · have ht : t = 10 := pw_ge c5 hi (by decide)
        refine lv_iconst (v := 1) hx hb dX1_fits_101 (by decide +kernel) ?_
        exact pw_ret hx hb hr hlocks hS rfl (⟨true, rfl, ⟨fun _ a b ha => hF a b (by omega), fun _ => rfl⟩⟩) dX1_fits_102
      · have ht : t < 10 := pw_lt c5 hi (by decide)
        refine lv_iconst (v := (nI 0)) hx hb dX1_fits_8 (by decide +kernel) ?_
        refine lv_istore (lv' := [(4, .int (nI 0)), (0, .ref (h 0)), (1, .int (pw_ms P)), (2, .int (pw_bI ch)), (3, .int (nI t))]) hx hb dX1_fits_9 hl (by decide) rfl (fun ls hl => ?_)
        have LOOP11 : ∀ (n : Nat) (u : Nat), u ≤ t → t + 1 ≤ u + n → (∀ b, b < u → P t = true → P b = true → (R t b || R b t) = ch) → ∀ (H : Heap) (locs : List Loc), va_P D pw_cl (pw_X1 d h fz) H → va_S pw_no s.heap H locs → ∀ (ls : Array Slot), lv_has ls 6 [(0, .ref (h 0)), (1, .int (pw_ms P)), (2, .int (pw_bI ch)), (3, .int (nI t)), (4, .int (nI u))] → W p l e (headSpec (ws_ yX1_fits cX1_fits 6 (some .boolean)) ({ frames := 0, cells := 0, slots := 0, locals := 0 })).room s m ([.ref (h 0), .int (pw_ms P), .int (pw_bI ch)] : List Value).toArray below meth c H locs 0 0 (MQ below (pw_Q (fun r => ∃ b, r = pw_bI b ∧ (b = true ↔ pw_Fit R ch P))) ([.ref (h 0), .int (pw_ms P), .int (pw_bI ch)] : List Value).toArray s 0 0 pw_no) (F0 m 11 ls []) := by
          intro n
          induction n with
          | zero =>
            intro u hi2 hn2 hG
            exfalso; omega
          | succ n ih11 =>
            intro u hi2 hn2 hG H locs hP hS ls hl
            refine lv_iload hx hb dX1_fits_11 (lv_at hl 4 rfl) ?_
            refine lv_iload_n hx hb dX1_fits_13 rfl (lv_at hl 3 rfl) ?_
            refine lv_icmp_ge (tgt := 95) hx hb dX1_fits_14 (by decide) (fun c14 => ?_) (fun c14 => ?_)
            · have hu : u = t := pw_ge c14 hi2 (by omega)
              have hG2 : ∀ b, b < t → P t = true → P b = true → (R t b || R b t) = ch := by rw [hu] at hG; exact hG
              refine lv_iinc (v := (nI (t + 1))) (lv' := [(3, .int (nI (t + 1))), (0, .ref (h 0)), (1, .int (pw_ms P)), (2, .int (pw_bI ch)), (4, .int (nI u))]) hx hb dX1_fits_95 hl (k := 3) rfl (pw_inc _) (by decide) rfl (fun ls hl => ?_)
              refine lv_goto (tgt := 2) hx hb dX1_fits_98 (by decide) ?_
              exact ih2 (t + 1) (by omega) (by omega) (pw_fit_s hF hG2) _ _ hP hS ls (lv_sub hl [1, 2, 3, 0] rfl)
            · have hut : u < t := pw_lt c14 hi2 (by omega)
              have hu : u < 10 := by omega
              refine lv_iload_n hx hb dX1_fits_17 rfl (lv_at hl 1 rfl) ?_
              refine lv_iload_n hx hb dX1_fits_18 rfl (lv_at hl 3 rfl) ?_
              refine lv_ishr hx hb dX1_fits_19 ?_
              refine lv_iconst (v := 1) hx hb dX1_fits_20 (by decide +kernel) ?_
              refine lv_iand hx hb dX1_fits_21 ?_
              refine pw_top (y := (pw_bI (P t))) (pw_ms_bitS P ht) ?_
              refine lv_iconst (v := 1) hx hb dX1_fits_22 (by decide +kernel) ?_
              refine lv_icmp_ne (tgt := 40) hx hb dX1_fits_23 (by decide) (fun c23 => ?_) (fun c23 => ?_)
              · have hgu : P t = true → P u = true → (R t u || R u t) = ch := fun z _ => (pw_tf (pw_bI_n1.mp c23) z).elim
                refine lv_iconst (v := 0) hx hb dX1_fits_40 (by decide +kernel) ?_
                refine lv_istore (lv' := [(5, .int 0), (0, .ref (h 0)), (1, .int (pw_ms P)), (2, .int (pw_bI ch)), (3, .int (nI t)), (4, .int (nI u))]) hx hb dX1_fits_41 hl (by decide) rfl (fun ls hl => ?_)
                refine lv_iload hx hb dX1_fits_43 (lv_at hl 0 rfl) ?_
                refine lv_if_eq (tgt := 89) hx hb dX1_fits_45 (by decide) (fun _ => ?_) (fun c9 => absurd c9 (by decide))
                refine lv_iinc (v := (nI (u + 1))) (lv' := [(4, .int (nI (u + 1))), (5, .int 0), (0, .ref (h 0)), (1, .int (pw_ms P)), (2, .int (pw_bI ch)), (3, .int (nI t))]) hx hb dX1_fits_89 hl (k := 5) rfl (pw_inc _) (by decide) rfl (fun ls hl => ?_)
                refine lv_goto (tgt := 11) hx hb dX1_fits_92 (by decide) ?_
                exact ih11 (u + 1) (by omega) (by omega) (lt_s hG hgu) _ _ hP hS ls (lv_sub hl [2, 3, 4, 5, 0] rfl)
              · have cP := pw_bI_1.mp c23
                refine lv_iload_n hx hb dX1_fits_26 rfl (lv_at hl 1 rfl) ?_
                refine lv_iload hx hb dX1_fits_27 (lv_at hl 4 rfl) ?_
                refine lv_ishr hx hb dX1_fits_29 ?_
                refine lv_iconst (v := 1) hx hb dX1_fits_30 (by decide +kernel) ?_
                refine lv_iand hx hb dX1_fits_31 ?_
                refine pw_top (y := (pw_bI (P u))) (pw_ms_bitS P hu) ?_
                refine lv_iconst (v := 1) hx hb dX1_fits_32 (by decide +kernel) ?_
                refine lv_icmp_ne (tgt := 40) hx hb dX1_fits_33 (by decide) (fun c33 => ?_) (fun c33 => ?_)
                · have hgu : P t = true → P u = true → (R t u || R u t) = ch := fun _ z => (pw_tf (pw_bI_n1.mp c33) z).elim
                  refine lv_iconst (v := 0) hx hb dX1_fits_40 (by decide +kernel) ?_
                  refine lv_istore (lv' := [(5, .int 0), (0, .ref (h 0)), (1, .int (pw_ms P)), (2, .int (pw_bI ch)), (3, .int (nI t)), (4, .int (nI u))]) hx hb dX1_fits_41 hl (by decide) rfl (fun ls hl => ?_)
                  refine lv_iload hx hb dX1_fits_43 (lv_at hl 0 rfl) ?_
                  refine lv_if_eq (tgt := 89) hx hb dX1_fits_45 (by decide) (fun _ => ?_) (fun c9 => absurd c9 (by decide))
                  refine lv_iinc (v := (nI (u + 1))) (lv' := [(4, .int (nI (u + 1))), (5, .int 0), (0, .ref (h 0)), (1, .int (pw_ms P)), (2, .int (pw_bI ch)), (3, .int (nI t))]) hx hb dX1_fits_89 hl (k := 5) rfl (pw_inc _) (by decide) rfl (fun ls hl => ?_)
                  refine lv_goto (tgt := 11) hx hb dX1_fits_92 (by decide) ?_
                  exact ih11 (u + 1) (by omega) (by omega) (lt_s hG hgu) _ _ hP hS ls (lv_sub hl [2, 3, 4, 5, 0] rfl)
                · have cQ := pw_bI_1.mp c33
                  refine lv_iconst (v := 1) hx hb dX1_fits_36 (by decide +kernel) ?_
                  refine lv_goto (tgt := 41) hx hb dX1_fits_37 (by decide) ?_
                  refine lv_istore (lv' := [(5, .int 1), (0, .ref (h 0)), (1, .int (pw_ms P)), (2, .int (pw_bI ch)), (3, .int (nI t)), (4, .int (nI u))]) hx hb dX1_fits_41 hl (by decide) rfl (fun ls hl => ?_)
                  refine lv_iload hx hb dX1_fits_43 (lv_at hl 0 rfl) ?_
                  refine lv_if_eq (tgt := 89) hx hb dX1_fits_45 (by decide) (fun c9 => absurd c9 (by decide)) (fun _ => ?_)
                  refine lv_aload_n hx hb dX1_fits_48 rfl (lv_at hl 1 rfl) ?_
                  refine va_get (D := D) (ci := 1) (v := .ref (h 1)) (C := RX1) (T := TX1) (N := 1) hx hb hts in_X1 hown hK hP 0 rfl rfl 0 (by decide) (hts _ q131) (fun _ h9 => h9) rfl dX1_fits_49 ?_
                  refine lv_bipush (v := (nI 10)) hx hb dX1_fits_52 (by decide +kernel) ?_
                  refine lv_iload_n hx hb dX1_fits_54 rfl (lv_at hl 4 rfl) ?_
                  refine lv_imul hx hb dX1_fits_55 ?_
                  refine pw_top (y := (nI (10 * t))) (pk_mul _ _) ?_
                  refine lv_iload hx hb dX1_fits_56 (lv_at hl 5 rfl) ?_
                  refine lv_iadd hx hb dX1_fits_58 ?_
                  refine pw_top (y := (nI (10 * t + u))) (nI_add _ _) ?_
                  refine pw_zald hx hb hK hP 1 0 rfl rfl (by omega) (by decide) dX1_fits_59 ?_
                  refine pw_top (y := (pw_bI (R t u))) (hZ t u ht hu) ?_
                  refine lv_if_ne (tgt := 78) hx hb dX1_fits_60 (by decide) (fun c60 => ?_) (fun c60 => ?_)
                  · have eo : (R t u || R u t) = true := by rw [pw_bI_n.mp c60]; rfl
                    refine lv_iconst (v := 1) hx hb dX1_fits_78 (by decide +kernel) ?_
                    refine lv_goto (tgt := 83) hx hb dX1_fits_79 (by decide) ?_
                    refine lv_iload_n hx hb dX1_fits_83 rfl (lv_at hl 3 rfl) ?_
                    refine lv_icmp_eq (tgt := 89) hx hb dX1_fits_84 (by decide) (fun c84 => ?_) (fun c84 => ?_)
                    · have hgu : P t = true → P u = true → (R t u || R u t) = ch := fun _ _ => eo.trans (pw_bI_1.mp c84.symm).symm
                      refine lv_iinc (v := (nI (u + 1))) (lv' := [(4, .int (nI (u + 1))), (5, .int 1), (0, .ref (h 0)), (1, .int (pw_ms P)), (2, .int (pw_bI ch)), (3, .int (nI t))]) hx hb dX1_fits_89 hl (k := 5) rfl (pw_inc _) (by decide) rfl (fun ls hl => ?_)
                      refine lv_goto (tgt := 11) hx hb dX1_fits_92 (by decide) ?_
                      exact ih11 (u + 1) (by omega) (by omega) (lt_s hG hgu) _ _ hP hS ls (lv_sub hl [2, 3, 4, 5, 0] rfl)
                    · have eo3 : ¬ (R t u || R u t) = ch := fun z => c84 (by rw [← z, eo]; rfl)
                      refine lv_iconst (v := 0) hx hb dX1_fits_87 (by decide +kernel) ?_
                      exact pw_ret hx hb hr hlocks hS rfl (⟨false, rfl, ⟨fun z => (by cases z), fun z => absurd (z t u ht hut cP cQ) eo3⟩⟩) dX1_fits_88
                  · have e60 := pw_bI_0.mp c60
                    refine lv_aload_n hx hb dX1_fits_63 rfl (lv_at hl 1 rfl) ?_
                    refine va_get (D := D) (ci := 1) (v := .ref (h 1)) (C := RX1) (T := TX1) (N := 1) hx hb hts in_X1 hown hK hP 0 rfl rfl 0 (by decide) (hts _ q131) (fun _ h9 => h9) rfl dX1_fits_64 ?_
                    refine lv_bipush (v := (nI 10)) hx hb dX1_fits_67 (by decide +kernel) ?_
                    refine lv_iload hx hb dX1_fits_69 (lv_at hl 5 rfl) ?_
                    refine lv_imul hx hb dX1_fits_71 ?_
                    refine pw_top (y := (nI (10 * u))) (pk_mul _ _) ?_
                    refine lv_iload_n hx hb dX1_fits_72 rfl (lv_at hl 4 rfl) ?_
                    refine lv_iadd hx hb dX1_fits_73 ?_
                    refine pw_top (y := (nI (10 * u + t))) (nI_add _ _) ?_
                    refine pw_zald hx hb hK hP 1 0 rfl rfl (by omega) (by decide) dX1_fits_74 ?_
                    refine pw_top (y := (pw_bI (R u t))) (hZ u t hu ht) ?_
                    refine lv_if_eq (tgt := 82) hx hb dX1_fits_75 (by decide) (fun c75 => ?_) (fun c75 => ?_)
                    · have eo : (R t u || R u t) = false := by rw [e60, pw_bI_0.mp c75]; rfl
                      refine lv_iconst (v := 0) hx hb dX1_fits_82 (by decide +kernel) ?_
                      refine lv_iload_n hx hb dX1_fits_83 rfl (lv_at hl 3 rfl) ?_
                      refine lv_icmp_eq (tgt := 89) hx hb dX1_fits_84 (by decide) (fun c84 => ?_) (fun c84 => ?_)
                      · have hgu : P t = true → P u = true → (R t u || R u t) = ch := fun _ _ => eo.trans (pw_bI_0.mp c84.symm).symm
                        refine lv_iinc (v := (nI (u + 1))) (lv' := [(4, .int (nI (u + 1))), (5, .int 1), (0, .ref (h 0)), (1, .int (pw_ms P)), (2, .int (pw_bI ch)), (3, .int (nI t))]) hx hb dX1_fits_89 hl (k := 5) rfl (pw_inc _) (by decide) rfl (fun ls hl => ?_)
                        refine lv_goto (tgt := 11) hx hb dX1_fits_92 (by decide) ?_
                        exact ih11 (u + 1) (by omega) (by omega) (lt_s hG hgu) _ _ hP hS ls (lv_sub hl [2, 3, 4, 5, 0] rfl)
                      · have eo3 : ¬ (R t u || R u t) = ch := fun z => c84 (by rw [← z, eo]; rfl)
                        refine lv_iconst (v := 0) hx hb dX1_fits_87 (by decide +kernel) ?_
                        exact pw_ret hx hb hr hlocks hS rfl (⟨false, rfl, ⟨fun z => (by cases z), fun z => absurd (z t u ht hut cP cQ) eo3⟩⟩) dX1_fits_88
                    · have eo : (R t u || R u t) = true := by rw [pw_bI_n.mp c75]; simp
                      refine lv_iconst (v := 1) hx hb dX1_fits_78 (by decide +kernel) ?_
                      refine lv_goto (tgt := 83) hx hb dX1_fits_79 (by decide) ?_
                      refine lv_iload_n hx hb dX1_fits_83 rfl (lv_at hl 3 rfl) ?_
                      refine lv_icmp_eq (tgt := 89) hx hb dX1_fits_84 (by decide) (fun c84 => ?_) (fun c84 => ?_)
                      · have hgu : P t = true → P u = true → (R t u || R u t) = ch := fun _ _ => eo.trans (pw_bI_1.mp c84.symm).symm
                        refine lv_iinc (v := (nI (u + 1))) (lv' := [(4, .int (nI (u + 1))), (5, .int 1), (0, .ref (h 0)), (1, .int (pw_ms P)), (2, .int (pw_bI ch)), (3, .int (nI t))]) hx hb dX1_fits_89 hl (k := 5) rfl (pw_inc _) (by decide) rfl (fun ls hl => ?_)
                        refine lv_goto (tgt := 11) hx hb dX1_fits_92 (by decide) ?_
                        exact ih11 (u + 1) (by omega) (by omega) (lt_s hG hgu) _ _ hP hS ls (lv_sub hl [2, 3, 4, 5, 0] rfl)
                      · have eo3 : ¬ (R t u || R u t) = ch := fun z => c84 (by rw [← z, eo]; rfl)
                        refine lv_iconst (v := 0) hx hb dX1_fits_87 (by decide +kernel) ?_
                        exact pw_ret hx hb hr hlocks hS rfl (⟨false, rfl, ⟨fun z => (by cases z), fun z => absurd (z t u ht hut cP cQ) eo3⟩⟩) dX1_fits_88
        exact LOOP11 (t + 1) 0 (by omega) (by omega) (fun b h => absurd h (by omega)) _ _ hP hS ls (lv_sub hl [1, 2, 3, 4, 0] rfl)
  exact LOOP2 11 0 (by omega) (by omega) (fun a b h => absurd h (by omega)) _ _ hP hS ls (lv_sub hl [1, 2, 3, 0] rfl)
set_option maxHeartbeats 4000000 in
set_option maxRecDepth 100000 in
/-- greatest(in, out, chain) -/
theorem metX1_greatest (l : Launch) (D : va_G) (d : ClassId) (h : Nat → Nat) (R : Nat → Nat → Bool) (fz : Nat → Int32) (I O : Nat → Bool) (ch : Bool) (hZ : pw_Rz R fz) : pw_RO l yX1_greatest cX1_greatest 7 (some .int) ({ frames := 1, cells := 0, slots := 0, locals := 25 }) D (pw_X1 d h fz) [(d, .boolean)] [.ref (h 0), .int (pw_ms I), .int (pw_ms O), .int (pw_bI ch)] (fun r => ∃ o, r = pw_oI o ∧ pw_GB R I O ch 1024 o) := by
  refine Met.ofW (cc := cX1_greatest) (maxL := 7) (ret := (some .int)) (by decide) rfl ?_
  intro p e s m args below meth c s₁ B hml hv
  obtain ⟨rfl, hP, hK⟩ := hv
  have hx := B.exec
  have hb := B.bytes
  have hr := B.returns
  have hts := atoms_spec (ws := ws_ yX1_greatest cX1_greatest 7 (some .int)) B.pre
  have hts : ∀ w ∈ lw_all, w.before _ s = true := fun w h => hts w (List.mem_cons_of_mem _ h)
  have hown : s.vm.findClass RX1 = some m.cls := findClass_of_methodNamed B.named
  have hlocks := B.notSynchronized
  have hS : va_S pw_no s.heap s.heap [] := va_S.rf
  have hP : va_P D pw_cl (pw_X1 d h fz) s.heap := hP
  have hK : va_K D pw_cl [(d, .boolean)] s := hK
  have hl := lv_entry ([.ref (h 0), .int (pw_ms I), .int (pw_ms O), .int (pw_bI ch)]) (n := 7) (Nat.le_of_ble_eq_true rfl)
  rw [lg_entry_eq]
  generalize (lg_sl ([.ref (h 0), .int (pw_ms I), .int (pw_ms O), .int (pw_bI ch)]) ++ List.replicate (7 - (lg_sl ([.ref (h 0), .int (pw_ms I), .int (pw_ms O), .int (pw_bI ch)])).length) Slot.unset).toArray = ls at hl ⊢
  have hl : lv_has ls 7 [(0, .ref (h 0)), (1, .int (pw_ms I)), (2, .int (pw_ms O)), (3, .int (pw_bI ch))] := hl
  refine lv_iconst (v := (-1)) hx hb dX1_greatest_0 (by decide +kernel) ?_
  refine lv_istore (lv' := [(4, .int (-1)), (0, .ref (h 0)), (1, .int (pw_ms I)), (2, .int (pw_ms O)), (3, .int (pw_bI ch))]) hx hb dX1_greatest_1 hl (by decide) rfl (fun ls hl => ?_)
  refine lv_iconst (v := (nI 0)) hx hb dX1_greatest_3 (by decide +kernel) ?_
  refine lv_istore (lv' := [(5, .int (nI 0)), (4, .int (-1)), (0, .ref (h 0)), (1, .int (pw_ms I)), (2, .int (pw_ms O)), (3, .int (pw_bI ch))]) hx hb dX1_greatest_4 hl (by decide) rfl (fun ls hl => ?_)
  have LOOP6 : ∀ (n : Nat) (t : Nat) (o : Option Nat), t ≤ 1024 → 1024 + 1 ≤ t + n → pw_GB R I O ch t o → ∀ (H : Heap) (locs : List Loc), va_P D pw_cl (pw_X1 d h fz) H → va_S pw_no s.heap H locs → ∀ (ls : Array Slot), lv_has ls 7 [(0, .ref (h 0)), (1, .int (pw_ms I)), (2, .int (pw_ms O)), (3, .int (pw_bI ch)), (4, .int (pw_oI o)), (5, .int (nI t))] → W p l e (headSpec (ws_ yX1_greatest cX1_greatest 7 (some .int)) ({ frames := 1, cells := 0, slots := 0, locals := 25 })).room s m ([.ref (h 0), .int (pw_ms I), .int (pw_ms O), .int (pw_bI ch)] : List Value).toArray below meth c H locs 0 0 (MQ below (pw_Q (fun r => ∃ o, r = pw_oI o ∧ pw_GB R I O ch 1024 o)) ([.ref (h 0), .int (pw_ms I), .int (pw_ms O), .int (pw_bI ch)] : List Value).toArray s 0 0 pw_no) (F0 m 6 ls []) := by
    intro n
    induction n with
    | zero =>
      intro t o hi hn hG
      exfalso; omega
    | succ n ih6 =>
      intro t o hi hn hG H locs hP hS ls hl
      refine lv_iload hx hb dX1_greatest_6 (lv_at hl 5 rfl) ?_
      refine lv_sipush (v := (nI 1024)) hx hb dX1_greatest_8 (by decide +kernel) ?_
      refine lv_icmp_ge (tgt := 79) hx hb dX1_greatest_11 (by decide) (fun c11 => ?_) (fun c11 => ?_)
      · have ht : t = 1024 := pw_ge c11 hi (by decide)
        refine lv_iload hx hb dX1_greatest_79 (lv_at hl 4 rfl) ?_
        exact pw_ret hx hb hr hlocks hS rfl (⟨o, rfl, (by rw [ht] at hG; exact hG)⟩) dX1_greatest_81
      · have ht : t < 1024 := pw_lt c11 hi (by decide)
        refine lv_iload hx hb dX1_greatest_14 (lv_at hl 5 rfl) ?_
        refine pw_top (y := (pw_ms (pw_tb t))) (pw_ms_nI ht) ?_
        refine lv_iload_n hx hb dX1_greatest_16 rfl (lv_at hl 1 rfl) ?_
        refine lv_iand hx hb dX1_greatest_17 ?_
        refine pw_top (y := (pw_ms (fun i => pw_tb t i && I i))) (pw_ms_and _ _) ?_
        refine lv_iload_n hx hb dX1_greatest_18 rfl (lv_at hl 1 rfl) ?_
        refine lv_icmp_ne (tgt := 33) hx hb dX1_greatest_19 (by decide) (fun c19 => ?_) (fun c19 => ?_)
        · have hno : ¬ pw_ok R I O ch t := fun z => c19 (pw_sub_iff.mpr z.1)
          have hy := hG.no hno
          refine lv_iconst (v := 0) hx hb dX1_greatest_33 (by decide +kernel) ?_
          refine lv_istore (lv' := [(6, .int 0), (0, .ref (h 0)), (1, .int (pw_ms I)), (2, .int (pw_ms O)), (3, .int (pw_bI ch)), (4, .int (pw_oI o)), (5, .int (nI t))]) hx hb dX1_greatest_34 hl (by decide) rfl (fun ls hl => ?_)
          refine lv_iload hx hb dX1_greatest_36 (lv_at hl 0 rfl) ?_
          refine lv_if_eq (tgt := 73) hx hb dX1_greatest_38 (by decide) (fun _ => ?_) (fun c9 => absurd c9 (by decide))
          refine lv_iinc (v := (nI (t + 1))) (lv' := [(5, .int (nI (t + 1))), (6, .int 0), (0, .ref (h 0)), (1, .int (pw_ms I)), (2, .int (pw_ms O)), (3, .int (pw_bI ch)), (4, .int (pw_oI o))]) hx hb dX1_greatest_73 hl (k := 6) rfl (pw_inc _) (by decide) rfl (fun ls hl => ?_)
          refine lv_goto (tgt := 6) hx hb dX1_greatest_76 (by decide) ?_
          exact ih6 (t + 1) o (by omega) (by omega) hy _ _ hP hS ls (lv_sub hl [2, 3, 4, 5, 6, 0] rfl)
        · refine lv_iload hx hb dX1_greatest_22 (lv_at hl 5 rfl) ?_
          refine pw_top (y := (pw_ms (pw_tb t))) (pw_ms_nI ht) ?_
          refine lv_iload_n hx hb dX1_greatest_24 rfl (lv_at hl 2 rfl) ?_
          refine lv_iand hx hb dX1_greatest_25 ?_
          refine pw_top (y := (pw_ms (fun i => pw_tb t i && O i))) (pw_ms_and _ _) ?_
          refine lv_if_ne (tgt := 33) hx hb dX1_greatest_26 (by decide) (fun c26 => ?_) (fun c26 => ?_)
          · have hno : ¬ pw_ok R I O ch t := fun z => c26 (pw_dis_iff.mpr z.2.1)
            have hy := hG.no hno
            refine lv_iconst (v := 0) hx hb dX1_greatest_33 (by decide +kernel) ?_
            refine lv_istore (lv' := [(6, .int 0), (0, .ref (h 0)), (1, .int (pw_ms I)), (2, .int (pw_ms O)), (3, .int (pw_bI ch)), (4, .int (pw_oI o)), (5, .int (nI t))]) hx hb dX1_greatest_34 hl (by decide) rfl (fun ls hl => ?_)
            refine lv_iload hx hb dX1_greatest_36 (lv_at hl 0 rfl) ?_
            refine lv_if_eq (tgt := 73) hx hb dX1_greatest_38 (by decide) (fun _ => ?_) (fun c9 => absurd c9 (by decide))
            refine lv_iinc (v := (nI (t + 1))) (lv' := [(5, .int (nI (t + 1))), (6, .int 0), (0, .ref (h 0)), (1, .int (pw_ms I)), (2, .int (pw_ms O)), (3, .int (pw_bI ch)), (4, .int (pw_oI o))]) hx hb dX1_greatest_73 hl (k := 6) rfl (pw_inc _) (by decide) rfl (fun ls hl => ?_)
            refine lv_goto (tgt := 6) hx hb dX1_greatest_76 (by decide) ?_
            exact ih6 (t + 1) o (by omega) (by omega) hy _ _ hP hS ls (lv_sub hl [2, 3, 4, 5, 6, 0] rfl)
          · refine lv_iconst (v := 1) hx hb dX1_greatest_29 (by decide +kernel) ?_
            refine lv_goto (tgt := 34) hx hb dX1_greatest_30 (by decide) ?_
            refine lv_istore (lv' := [(6, .int 1), (0, .ref (h 0)), (1, .int (pw_ms I)), (2, .int (pw_ms O)), (3, .int (pw_bI ch)), (4, .int (pw_oI o)), (5, .int (nI t))]) hx hb dX1_greatest_34 hl (by decide) rfl (fun ls hl => ?_)
            refine lv_iload hx hb dX1_greatest_36 (lv_at hl 0 rfl) ?_
            refine lv_if_eq (tgt := 73) hx hb dX1_greatest_38 (by decide) (fun c9 => absurd c9 (by decide)) (fun _ => ?_)
            refine lv_aload_n hx hb dX1_greatest_41 rfl (lv_at hl 1 rfl) ?_
            refine lv_iload hx hb dX1_greatest_42 (lv_at hl 6 rfl) ?_
            refine pw_top (y := (pw_ms (pw_tb t))) (pw_ms_nI ht) ?_
            refine lv_iload_n hx hb dX1_greatest_44 rfl (lv_at hl 4 rfl) ?_
            refine pw_callV (As := [.int (pw_ms (pw_tb t)), .int (pw_bI ch)]) (rest := []) ⟨hx, hb, hml, hown, hts⟩ (metX1_fits l D d h R fz (pw_tb t) ch hZ) (cwV 2 hts (lw_V q167 q169 qs11 q14 q170) rfl rfl rfl (by decide +kernel) ⟨Nat.le_of_ble_eq_true rfl, Nat.le_of_ble_eq_true rfl⟩) hK hP [0] rfl (ci := 1) rfl rfl rfl hS rfl hl.1 rfl (Nat.le_of_ble_eq_true rfl) dX1_greatest_45 ⟨Nat.zero_le _, Nat.zero_le _⟩ (fun r1 H locs er1 hk hS => ?_)
            have hP := pw_keep hP hk
            obtain ⟨b1, rfl, hb1⟩ := er1
            refine lv_if_eq (tgt := 73) hx hb dX1_greatest_48 (by decide) (fun c48 => ?_) (fun c48 => ?_)
            · have hno : ¬ pw_ok R I O ch t := fun z => (pw_tf (pw_bI_0.mp c48) (hb1.mpr z.2.2)).elim
              have hy := hG.no hno
              refine lv_iinc (v := (nI (t + 1))) (lv' := [(5, .int (nI (t + 1))), (6, .int 1), (0, .ref (h 0)), (1, .int (pw_ms I)), (2, .int (pw_ms O)), (3, .int (pw_bI ch)), (4, .int (pw_oI o))]) hx hb dX1_greatest_73 hl (k := 6) rfl (pw_inc _) (by decide) rfl (fun ls hl => ?_)
              refine lv_goto (tgt := 6) hx hb dX1_greatest_76 (by decide) ?_
              exact ih6 (t + 1) o (by omega) (by omega) hy _ _ hP hS ls (lv_sub hl [2, 3, 4, 5, 6, 0] rfl)
            · have hok : pw_ok R I O ch t := ⟨pw_sub_iff.mp c19, pw_dis_iff.mp c26, hb1.mp (pw_bI_n.mp c48)⟩
              refine lv_iload hx hb dX1_greatest_51 (lv_at hl 5 rfl) ?_
              refine lv_if_lt (tgt := 69) hx hb dX1_greatest_53 (by decide) (fun c53 => ?_) (fun c53 => ?_)
              · have eo : o = none := (pw_oI_neg2 (fun j e => by rw [e] at hG; have := hG.lt; omega)).mp c53
                have hy : pw_GB R I O ch (t + 1) (some t) := pw_GB.first (by rw [eo] at hG; exact hG) hok
                refine lv_iload hx hb dX1_greatest_69 (lv_at hl 6 rfl) ?_
                refine lv_istore (lv' := [(4, .int (nI t)), (6, .int 1), (0, .ref (h 0)), (1, .int (pw_ms I)), (2, .int (pw_ms O)), (3, .int (pw_bI ch)), (5, .int (nI t))]) hx hb dX1_greatest_71 hl (by decide) rfl (fun ls hl => ?_)
                refine lv_iinc (v := (nI (t + 1))) (lv' := [(5, .int (nI (t + 1))), (4, .int (nI t)), (6, .int 1), (0, .ref (h 0)), (1, .int (pw_ms I)), (2, .int (pw_ms O)), (3, .int (pw_bI ch))]) hx hb dX1_greatest_73 hl (k := 6) rfl (pw_inc _) (by decide) rfl (fun ls hl => ?_)
                refine lv_goto (tgt := 6) hx hb dX1_greatest_76 (by decide) ?_
                exact ih6 (t + 1) (some t) (by omega) (by omega) hy _ _ hP hS ls (lv_sub hl [3, 4, 5, 6, 1, 0] rfl)
              · obtain ⟨j, rfl⟩ := pw_oI_some c53
                have hj : j < 1024 := by have := hG.lt; omega
                have hc1 := pw_cn_le (pw_tb t) 10
                have hc2 := pw_cn_le (pw_tb j) 10
                refine lv_iload hx hb dX1_greatest_56 (lv_at hl 6 rfl) ?_
                refine pw_top (y := (pw_ms (pw_tb t))) (pw_ms_nI ht) ?_
                refine pw_callS (As := [.int (pw_ms (pw_tb t))]) (rest := []) ⟨hx, hb, hml, hown, hts⟩ (metX1_ones l D (pw_tb t)) (va_cwS 1 hts (lw_S q171 q172 q14 q173) rfl rfl rfl (by decide +kernel) ⟨Nat.le_of_ble_eq_true rfl, Nat.le_of_ble_eq_true rfl⟩) hK hS rfl hl.1 rfl (Nat.le_of_ble_eq_true rfl) dX1_greatest_58 ⟨Nat.zero_le _, Nat.zero_le _⟩ (fun r2 H locs er2 hk hS => ?_)
                have hP := pw_keep hP hk
                subst er2
                refine lv_iload hx hb dX1_greatest_61 (lv_at hl 5 rfl) ?_
                refine pw_top (y := (pw_ms (pw_tb j))) (pw_ms_nI hj) ?_
                refine pw_callS (As := [.int (pw_ms (pw_tb j))]) (rest := [.int (nI (pw_cn (pw_tb t) 10))]) ⟨hx, hb, hml, hown, hts⟩ (metX1_ones l D (pw_tb j)) (va_cwS 1 hts (lw_S q171 q172 q14 q173) rfl rfl rfl (by decide +kernel) ⟨Nat.le_of_ble_eq_true rfl, Nat.le_of_ble_eq_true rfl⟩) hK hS rfl hl.1 rfl (Nat.le_of_ble_eq_true rfl) dX1_greatest_63 ⟨Nat.zero_le _, Nat.zero_le _⟩ (fun r3 H locs er3 hk hS => ?_)
                have hP := pw_keep hP hk
                subst er3
                refine lv_icmp_le (tgt := 73) hx hb dX1_greatest_66 (by decide) (fun c66 => ?_) (fun c66 => ?_)
                · have hy := hG.less ((nI_leI (by omega) (by omega)).mp c66)
                  refine lv_iinc (v := (nI (t + 1))) (lv' := [(5, .int (nI (t + 1))), (6, .int 1), (0, .ref (h 0)), (1, .int (pw_ms I)), (2, .int (pw_ms O)), (3, .int (pw_bI ch)), (4, .int (pw_oI (some j)))]) hx hb dX1_greatest_73 hl (k := 6) rfl (pw_inc _) (by decide) rfl (fun ls hl => ?_)
                  refine lv_goto (tgt := 6) hx hb dX1_greatest_76 (by decide) ?_
                  exact ih6 (t + 1) (some j) (by omega) (by omega) hy _ _ hP hS ls (lv_sub hl [2, 3, 4, 5, 6, 0] rfl)
                · have hy := hG.more hok (Nat.not_le.mp (fun z => c66 ((nI_leI (by omega) (by omega)).mpr z)))
                  refine lv_iload hx hb dX1_greatest_69 (lv_at hl 6 rfl) ?_
                  refine lv_istore (lv' := [(4, .int (nI t)), (6, .int 1), (0, .ref (h 0)), (1, .int (pw_ms I)), (2, .int (pw_ms O)), (3, .int (pw_bI ch)), (5, .int (nI t))]) hx hb dX1_greatest_71 hl (by decide) rfl (fun ls hl => ?_)
                  refine lv_iinc (v := (nI (t + 1))) (lv' := [(5, .int (nI (t + 1))), (4, .int (nI t)), (6, .int 1), (0, .ref (h 0)), (1, .int (pw_ms I)), (2, .int (pw_ms O)), (3, .int (pw_bI ch))]) hx hb dX1_greatest_73 hl (k := 6) rfl (pw_inc _) (by decide) rfl (fun ls hl => ?_)
                  refine lv_goto (tgt := 6) hx hb dX1_greatest_76 (by decide) ?_
                  exact ih6 (t + 1) (some t) (by omega) (by omega) hy _ _ hP hS ls (lv_sub hl [3, 4, 5, 6, 1, 0] rfl)
  exact LOOP6 1025 0 none (by omega) (by omega) (pw_GB.start R I O ch) _ _ hP hS ls (lv_sub hl [2, 3, 4, 5, 1, 0] rfl)
set_option maxHeartbeats 4000000 in
set_option maxRecDepth 100000 in
/-- size(in, out, chain) -/
theorem metX1_size (l : Launch) (D : va_G) (d : ClassId) (h : Nat → Nat) (R : Nat → Nat → Bool) (fz : Nat → Int32) (I O : Nat → Bool) (ch : Bool) (hZ : pw_Rz R fz) : pw_RO l yX1_size cX1_size 5 (some .int) ({ frames := 2, cells := 0, slots := 0, locals := 51 }) D (pw_X1 d h fz) [(d, .boolean)] [.ref (h 0), .int (pw_ms I), .int (pw_ms O), .int (pw_bI ch)] (fun r => ∃ w, r = nI w ∧ pw_Sz R I O ch w) := by
  refine Met.ofW (cc := cX1_size) (maxL := 5) (ret := (some .int)) (by decide) rfl ?_
  intro p e s m args below meth c s₁ B hml hv
  obtain ⟨rfl, hP, hK⟩ := hv
  have hx := B.exec
  have hb := B.bytes
  have hr := B.returns
  have hts := atoms_spec (ws := ws_ yX1_size cX1_size 5 (some .int)) B.pre
  have hts : ∀ w ∈ lw_all, w.before _ s = true := fun w h => hts w (List.mem_cons_of_mem _ h)
  have hown : s.vm.findClass RX1 = some m.cls := findClass_of_methodNamed B.named
  have hlocks := B.notSynchronized
  have hS : va_S pw_no s.heap s.heap [] := va_S.rf
  have hP : va_P D pw_cl (pw_X1 d h fz) s.heap := hP
  have hK : va_K D pw_cl [(d, .boolean)] s := hK
  have hl := lv_entry ([.ref (h 0), .int (pw_ms I), .int (pw_ms O), .int (pw_bI ch)]) (n := 5) (Nat.le_of_ble_eq_true rfl)
  rw [lg_entry_eq]
  generalize (lg_sl ([.ref (h 0), .int (pw_ms I), .int (pw_ms O), .int (pw_bI ch)]) ++ List.replicate (5 - (lg_sl ([.ref (h 0), .int (pw_ms I), .int (pw_ms O), .int (pw_bI ch)])).length) Slot.unset).toArray = ls at hl ⊢
  have hl : lv_has ls 5 [(0, .ref (h 0)), (1, .int (pw_ms I)), (2, .int (pw_ms O)), (3, .int (pw_bI ch))] := hl
  refine lv_aload_n hx hb dX1_size_0 rfl (lv_at hl 0 rfl) ?_
  refine lv_iload_n hx hb dX1_size_1 rfl (lv_at hl 1 rfl) ?_
  refine lv_iload_n hx hb dX1_size_2 rfl (lv_at hl 2 rfl) ?_
  refine lv_iload_n hx hb dX1_size_3 rfl (lv_at hl 3 rfl) ?_
  refine pw_callV (As := [.int (pw_ms I), .int (pw_ms O), .int (pw_bI ch)]) (rest := []) ⟨hx, hb, hml, hown, hts⟩ (metX1_greatest l D d h R fz I O ch hZ) (cwV 3 hts (lw_V q163 q165 qs10 q14 q166) rfl rfl rfl (by decide +kernel) ⟨Nat.le_of_ble_eq_true rfl, Nat.le_of_ble_eq_true rfl⟩) hK hP [0] rfl (ci := 1) rfl rfl rfl hS rfl hl.1 rfl (Nat.le_of_ble_eq_true rfl) dX1_size_4 ⟨Nat.zero_le _, Nat.zero_le _⟩ (fun r1 H locs er1 hk hS => ?_)
  have hP := pw_keep hP hk
  obtain ⟨o, rfl, hG⟩ := er1
  refine lv_istore (lv' := [(4, .int (pw_oI o)), (0, .ref (h 0)), (1, .int (pw_ms I)), (2, .int (pw_ms O)), (3, .int (pw_bI ch))]) hx hb dX1_size_7 hl (by decide) rfl (fun ls hl => ?_)
  refine lv_iload hx hb dX1_size_9 (lv_at hl 0 rfl) ?_
  refine lv_if_ge (tgt := 18) hx hb dX1_size_11 (by decide) (fun c11 => ?_) (fun c11 => ?_)
  · obtain ⟨j, rfl⟩ := pw_oI_ge c11
    refine lv_iload hx hb dX1_size_18 (lv_at hl 0 rfl) ?_
    refine pw_top (y := (pw_ms (pw_tb j))) (pw_ms_nI hG.lt) ?_
    refine pw_callS (As := [.int (pw_ms (pw_tb j))]) (rest := []) ⟨hx, hb, hml, hown, hts⟩ (metX1_ones l D (pw_tb j)) (va_cwS 1 hts (lw_S q171 q172 q14 q173) rfl rfl rfl (by decide +kernel) ⟨Nat.le_of_ble_eq_true rfl, Nat.le_of_ble_eq_true rfl⟩) hK hS rfl hl.1 rfl (Nat.le_of_ble_eq_true rfl) dX1_size_20 ⟨Nat.zero_le _, Nat.zero_le _⟩ (fun r2 H locs er2 hk hS => ?_)
    have hP := pw_keep hP hk
    subst er2
    exact pw_ret hx hb hr hlocks hS rfl (⟨_, rfl, ⟨some j, hG, rfl⟩⟩) dX1_size_23
  · have eo : o = none := pw_oI_nge (fun j e => by rw [e] at hG; have := hG.lt; omega) c11
    refine lv_iconst (v := (nI 0)) hx hb dX1_size_14 (by decide +kernel) ?_
    refine lv_goto (tgt := 23) hx hb dX1_size_15 (by decide) ?_
    exact pw_ret hx hb hr hlocks hS rfl (⟨0, rfl, ⟨none, (by rw [eo] at hG; exact hG), rfl⟩⟩) dX1_size_23
set_option maxHeartbeats 4000000 in
set_option maxRecDepth 100000 in
/-- width() -/
theorem metX1_width (l : Launch) (D : va_G) (d : ClassId) (h : Nat → Nat) (R : Nat → Nat → Bool) (fz : Nat → Int32) (hZ : pw_Rz R fz) : pw_RO l yX1_width cX1_width 1 (some .int) ({ frames := 3, cells := 0, slots := 0, locals := 75 }) D (pw_X1 d h fz) [(d, .boolean)] [.ref (h 0)] (fun r => ∃ w, r = nI w ∧ pw_Sz R (fun _ => false) (fun _ => false) false w) := by
  refine Met.ofW (cc := cX1_width) (maxL := 1) (ret := (some .int)) (by decide) rfl ?_
  intro p e s m args below meth c s₁ B hml hv
  obtain ⟨rfl, hP, hK⟩ := hv
  have hx := B.exec
  have hb := B.bytes
  have hr := B.returns
  have hts := atoms_spec (ws := ws_ yX1_width cX1_width 1 (some .int)) B.pre
  have hts : ∀ w ∈ lw_all, w.before _ s = true := fun w h => hts w (List.mem_cons_of_mem _ h)
  have hown : s.vm.findClass RX1 = some m.cls := findClass_of_methodNamed B.named
  have hlocks := B.notSynchronized
  have hS : va_S pw_no s.heap s.heap [] := va_S.rf
  have hP : va_P D pw_cl (pw_X1 d h fz) s.heap := hP
  have hK : va_K D pw_cl [(d, .boolean)] s := hK
  have hl := lv_entry ([.ref (h 0)]) (n := 1) (Nat.le_of_ble_eq_true rfl)
  rw [lg_entry_eq]
  generalize (lg_sl ([.ref (h 0)]) ++ List.replicate (1 - (lg_sl ([.ref (h 0)])).length) Slot.unset).toArray = ls at hl ⊢
  have hl : lv_has ls 1 [(0, .ref (h 0))] := hl
  refine lv_aload_n hx hb dX1_width_0 rfl (lv_at hl 0 rfl) ?_
  refine lv_iconst (v := 0) hx hb dX1_width_1 (by decide +kernel) ?_
  refine pw_top (y := (pw_ms (fun _ => false))) (pw_ms_0) ?_
  refine lv_iconst (v := 0) hx hb dX1_width_2 (by decide +kernel) ?_
  refine pw_top (y := (pw_ms (fun _ => false))) (pw_ms_0) ?_
  refine lv_iconst (v := 0) hx hb dX1_width_3 (by decide +kernel) ?_
  refine pw_top (y := (pw_bI false)) (rfl) ?_
  refine pw_callV (As := [.int (pw_ms (fun _ => false)), .int (pw_ms (fun _ => false)), .int (pw_bI false)]) (rest := []) ⟨hx, hb, hml, hown, hts⟩ (metX1_size l D d h R fz (fun _ => false) (fun _ => false) false hZ) (cwV 3 hts (lw_V q159 q161 qs9 q14 q162) rfl rfl rfl (by decide +kernel) ⟨Nat.le_of_ble_eq_true rfl, Nat.le_of_ble_eq_true rfl⟩) hK hP [0] rfl (ci := 1) rfl rfl rfl hS rfl hl.1 rfl (Nat.le_of_ble_eq_true rfl) dX1_width_4 ⟨Nat.zero_le _, Nat.zero_le _⟩ (fun r1 H locs er1 hk hS => ?_)
  have hP := pw_keep hP hk
  exact pw_ret hx hb hr hlocks hS rfl (er1) dX1_width_7
set_option maxHeartbeats 4000000 in
set_option maxRecDepth 100000 in
/-- height() -/
theorem metX1_height (l : Launch) (D : va_G) (d : ClassId) (h : Nat → Nat) (R : Nat → Nat → Bool) (fz : Nat → Int32) (hZ : pw_Rz R fz) : pw_RO l yX1_height cX1_height 1 (some .int) ({ frames := 3, cells := 0, slots := 0, locals := 75 }) D (pw_X1 d h fz) [(d, .boolean)] [.ref (h 0)] (fun r => ∃ w, r = nI w ∧ pw_Sz R (fun _ => false) (fun _ => false) true w) := by
  refine Met.ofW (cc := cX1_height) (maxL := 1) (ret := (some .int)) (by decide) rfl ?_
  intro p e s m args below meth c s₁ B hml hv
  obtain ⟨rfl, hP, hK⟩ := hv
  have hx := B.exec
  have hb := B.bytes
  have hr := B.returns
  have hts := atoms_spec (ws := ws_ yX1_height cX1_height 1 (some .int)) B.pre
  have hts : ∀ w ∈ lw_all, w.before _ s = true := fun w h => hts w (List.mem_cons_of_mem _ h)
  have hown : s.vm.findClass RX1 = some m.cls := findClass_of_methodNamed B.named
  have hlocks := B.notSynchronized
  have hS : va_S pw_no s.heap s.heap [] := va_S.rf
  have hP : va_P D pw_cl (pw_X1 d h fz) s.heap := hP
  have hK : va_K D pw_cl [(d, .boolean)] s := hK
  have hl := lv_entry ([.ref (h 0)]) (n := 1) (Nat.le_of_ble_eq_true rfl)
  rw [lg_entry_eq]
  generalize (lg_sl ([.ref (h 0)]) ++ List.replicate (1 - (lg_sl ([.ref (h 0)])).length) Slot.unset).toArray = ls at hl ⊢
  have hl : lv_has ls 1 [(0, .ref (h 0))] := hl
  refine lv_aload_n hx hb dX1_height_0 rfl (lv_at hl 0 rfl) ?_
  refine lv_iconst (v := 0) hx hb dX1_height_1 (by decide +kernel) ?_
  refine pw_top (y := (pw_ms (fun _ => false))) (pw_ms_0) ?_
  refine lv_iconst (v := 0) hx hb dX1_height_2 (by decide +kernel) ?_
  refine pw_top (y := (pw_ms (fun _ => false))) (pw_ms_0) ?_
  refine lv_iconst (v := 1) hx hb dX1_height_3 (by decide +kernel) ?_
  refine pw_top (y := (pw_bI true)) (rfl) ?_
  refine pw_callV (As := [.int (pw_ms (fun _ => false)), .int (pw_ms (fun _ => false)), .int (pw_bI true)]) (rest := []) ⟨hx, hb, hml, hown, hts⟩ (metX1_size l D d h R fz (fun _ => false) (fun _ => false) true hZ) (cwV 3 hts (lw_V q159 q161 qs9 q14 q162) rfl rfl rfl (by decide +kernel) ⟨Nat.le_of_ble_eq_true rfl, Nat.le_of_ble_eq_true rfl⟩) hK hP [0] rfl (ci := 1) rfl rfl rfl hS rfl hl.1 rfl (Nat.le_of_ble_eq_true rfl) dX1_height_4 ⟨Nat.zero_le _, Nat.zero_le _⟩ (fun r1 H locs er1 hk hS => ?_)
  have hP := pw_keep hP hk
  exact pw_ret hx hb hr hlocks hS rfl (er1) dX1_height_7
set_option maxHeartbeats 4000000 in
set_option maxRecDepth 100000 in
/-- widthWith(x) -/
theorem metX1_widthWith (l : Launch) (D : va_G) (d : ClassId) (h : Nat → Nat) (R : Nat → Nat → Bool) (fz : Nat → Int32) (x : Int32) (hZ : pw_Rz R fz) : pw_RO l yX1_widthWith cX1_widthWith 2 (some .int) ({ frames := 3, cells := 0, slots := 0, locals := 75 }) D (pw_X1 d h fz) [(d, .boolean)] [.ref (h 0), .int x] (pw_Pt (fun t w => pw_Sz R (fun i => i == t) (fun _ => false) false w) x) := by
  refine Met.ofW (cc := cX1_widthWith) (maxL := 2) (ret := (some .int)) (by decide) rfl ?_
  intro p e s m args below meth c s₁ B hml hv
  obtain ⟨rfl, hP, hK⟩ := hv
  have hx := B.exec
  have hb := B.bytes
  have hr := B.returns
  have hts := atoms_spec (ws := ws_ yX1_widthWith cX1_widthWith 2 (some .int)) B.pre
  have hts : ∀ w ∈ lw_all, w.before _ s = true := fun w h => hts w (List.mem_cons_of_mem _ h)
  have hown : s.vm.findClass RX1 = some m.cls := findClass_of_methodNamed B.named
  have hlocks := B.notSynchronized
  have hS : va_S pw_no s.heap s.heap [] := va_S.rf
  have hP : va_P D pw_cl (pw_X1 d h fz) s.heap := hP
  have hK : va_K D pw_cl [(d, .boolean)] s := hK
  have hl := lv_entry ([.ref (h 0), .int x]) (n := 2) (Nat.le_of_ble_eq_true rfl)
  rw [lg_entry_eq]
  generalize (lg_sl ([.ref (h 0), .int x]) ++ List.replicate (2 - (lg_sl ([.ref (h 0), .int x])).length) Slot.unset).toArray = ls at hl ⊢
  have hl : lv_has ls 2 [(0, .ref (h 0)), (1, .int x)] := hl
  refine lv_iload_n hx hb dX1_widthWith_0 rfl (lv_at hl 1 rfl) ?_
  refine pw_callS (As := [.int x]) (rest := []) ⟨hx, hb, hml, hown, hts⟩ (metX1_bad l D x) (va_cwS 1 hts (lw_S q140 q141 q14 q142) rfl rfl rfl (by decide +kernel) ⟨Nat.le_of_ble_eq_true rfl, Nat.le_of_ble_eq_true rfl⟩) hK hS rfl hl.1 rfl (Nat.le_of_ble_eq_true rfl) dX1_widthWith_1 ⟨Nat.zero_le _, Nat.zero_le _⟩ (fun r1 H locs er1 hk hS => ?_)
  have hP := pw_keep hP hk
  subst er1
  refine lv_if_eq (tgt := 11) hx hb dX1_widthWith_4 (by decide) (fun c4 => ?_) (fun c4 => ?_)
  · obtain ⟨t, ht, rfl⟩ := pw_th_of (pw_nb0 c4)
    refine lv_aload_n hx hb dX1_widthWith_11 rfl (lv_at hl 0 rfl) ?_
    refine lv_iconst (v := 1) hx hb dX1_widthWith_12 (by decide +kernel) ?_
    refine lv_iload_n hx hb dX1_widthWith_13 rfl (lv_at hl 1 rfl) ?_
    refine lv_ishl hx hb dX1_widthWith_14 ?_
    refine pw_top (y := (pw_ms (fun i => i == t))) (pw_ms_one t ht) ?_
    refine lv_iconst (v := 0) hx hb dX1_widthWith_15 (by decide +kernel) ?_
    refine pw_top (y := (pw_ms (fun _ => false))) (pw_ms_0) ?_
    refine lv_iconst (v := 0) hx hb dX1_widthWith_16 (by decide +kernel) ?_
    refine pw_top (y := (pw_bI false)) (rfl) ?_
    refine pw_callV (As := [.int (pw_ms (fun i => i == t)), .int (pw_ms (fun _ => false)), .int (pw_bI false)]) (rest := []) ⟨hx, hb, hml, hown, hts⟩ (metX1_size l D d h R fz (fun i => i == t) (fun _ => false) false hZ) (cwV 3 hts (lw_V q159 q161 qs9 q14 q162) rfl rfl rfl (by decide +kernel) ⟨Nat.le_of_ble_eq_true rfl, Nat.le_of_ble_eq_true rfl⟩) hK hP [0] rfl (ci := 1) rfl rfl rfl hS rfl hl.1 rfl (Nat.le_of_ble_eq_true rfl) dX1_widthWith_17 ⟨Nat.zero_le _, Nat.zero_le _⟩ (fun r2 H locs er2 hk hS => ?_)
    have hP := pw_keep hP hk
    obtain ⟨w2, rfl, hw2⟩ := er2
    exact pw_ret hx hb hr hlocks hS rfl (Or.inr ⟨t, w2, ht, rfl, rfl, hw2⟩) dX1_widthWith_20
  · have ez := pw_nbn c4
    refine lv_iconst (v := (-1)) hx hb dX1_widthWith_7 (by decide +kernel) ?_
    refine lv_goto (tgt := 20) hx hb dX1_widthWith_8 (by decide) ?_
    exact pw_ret hx hb hr hlocks hS rfl (Or.inl ⟨ez, rfl⟩) dX1_widthWith_20
set_option maxHeartbeats 4000000 in
set_option maxRecDepth 100000 in
/-- widthWithout(x) -/
theorem metX1_widthWithout (l : Launch) (D : va_G) (d : ClassId) (h : Nat → Nat) (R : Nat → Nat → Bool) (fz : Nat → Int32) (x : Int32) (hZ : pw_Rz R fz) : pw_RO l yX1_widthWithout cX1_widthWithout 2 (some .int) ({ frames := 3, cells := 0, slots := 0, locals := 75 }) D (pw_X1 d h fz) [(d, .boolean)] [.ref (h 0), .int x] (pw_Pt (fun t w => pw_Sz R (fun _ => false) (fun i => i == t) false w) x) := by
  refine Met.ofW (cc := cX1_widthWithout) (maxL := 2) (ret := (some .int)) (by decide) rfl ?_
  intro p e s m args below meth c s₁ B hml hv
  obtain ⟨rfl, hP, hK⟩ := hv
  have hx := B.exec
  have hb := B.bytes
  have hr := B.returns
  have hts := atoms_spec (ws := ws_ yX1_widthWithout cX1_widthWithout 2 (some .int)) B.pre
  have hts : ∀ w ∈ lw_all, w.before _ s = true := fun w h => hts w (List.mem_cons_of_mem _ h)
  have hown : s.vm.findClass RX1 = some m.cls := findClass_of_methodNamed B.named
  have hlocks := B.notSynchronized
  have hS : va_S pw_no s.heap s.heap [] := va_S.rf
  have hP : va_P D pw_cl (pw_X1 d h fz) s.heap := hP
  have hK : va_K D pw_cl [(d, .boolean)] s := hK
  have hl := lv_entry ([.ref (h 0), .int x]) (n := 2) (Nat.le_of_ble_eq_true rfl)
  rw [lg_entry_eq]
  generalize (lg_sl ([.ref (h 0), .int x]) ++ List.replicate (2 - (lg_sl ([.ref (h 0), .int x])).length) Slot.unset).toArray = ls at hl ⊢
  have hl : lv_has ls 2 [(0, .ref (h 0)), (1, .int x)] := hl
  refine lv_iload_n hx hb dX1_widthWithout_0 rfl (lv_at hl 1 rfl) ?_
  refine pw_callS (As := [.int x]) (rest := []) ⟨hx, hb, hml, hown, hts⟩ (metX1_bad l D x) (va_cwS 1 hts (lw_S q140 q141 q14 q142) rfl rfl rfl (by decide +kernel) ⟨Nat.le_of_ble_eq_true rfl, Nat.le_of_ble_eq_true rfl⟩) hK hS rfl hl.1 rfl (Nat.le_of_ble_eq_true rfl) dX1_widthWithout_1 ⟨Nat.zero_le _, Nat.zero_le _⟩ (fun r1 H locs er1 hk hS => ?_)
  have hP := pw_keep hP hk
  subst er1
  refine lv_if_eq (tgt := 11) hx hb dX1_widthWithout_4 (by decide) (fun c4 => ?_) (fun c4 => ?_)
  · obtain ⟨t, ht, rfl⟩ := pw_th_of (pw_nb0 c4)
    refine lv_aload_n hx hb dX1_widthWithout_11 rfl (lv_at hl 0 rfl) ?_
    refine lv_iconst (v := 0) hx hb dX1_widthWithout_12 (by decide +kernel) ?_
    refine pw_top (y := (pw_ms (fun _ => false))) (pw_ms_0) ?_
    refine lv_iconst (v := 1) hx hb dX1_widthWithout_13 (by decide +kernel) ?_
    refine lv_iload_n hx hb dX1_widthWithout_14 rfl (lv_at hl 1 rfl) ?_
    refine lv_ishl hx hb dX1_widthWithout_15 ?_
    refine pw_top (y := (pw_ms (fun i => i == t))) (pw_ms_one t ht) ?_
    refine lv_iconst (v := 0) hx hb dX1_widthWithout_16 (by decide +kernel) ?_
    refine pw_top (y := (pw_bI false)) (rfl) ?_
    refine pw_callV (As := [.int (pw_ms (fun _ => false)), .int (pw_ms (fun i => i == t)), .int (pw_bI false)]) (rest := []) ⟨hx, hb, hml, hown, hts⟩ (metX1_size l D d h R fz (fun _ => false) (fun i => i == t) false hZ) (cwV 3 hts (lw_V q159 q161 qs9 q14 q162) rfl rfl rfl (by decide +kernel) ⟨Nat.le_of_ble_eq_true rfl, Nat.le_of_ble_eq_true rfl⟩) hK hP [0] rfl (ci := 1) rfl rfl rfl hS rfl hl.1 rfl (Nat.le_of_ble_eq_true rfl) dX1_widthWithout_17 ⟨Nat.zero_le _, Nat.zero_le _⟩ (fun r2 H locs er2 hk hS => ?_)
    have hP := pw_keep hP hk
    obtain ⟨w2, rfl, hw2⟩ := er2
    exact pw_ret hx hb hr hlocks hS rfl (Or.inr ⟨t, w2, ht, rfl, rfl, hw2⟩) dX1_widthWithout_20
  · have ez := pw_nbn c4
    refine lv_iconst (v := (-1)) hx hb dX1_widthWithout_7 (by decide +kernel) ?_
    refine lv_goto (tgt := 20) hx hb dX1_widthWithout_8 (by decide) ?_
    exact pw_ret hx hb hr hlocks hS rfl (Or.inl ⟨ez, rfl⟩) dX1_widthWithout_20
set_option maxHeartbeats 4000000 in
set_option maxRecDepth 100000 in
/-- heightWith(x) -/
theorem metX1_heightWith (l : Launch) (D : va_G) (d : ClassId) (h : Nat → Nat) (R : Nat → Nat → Bool) (fz : Nat → Int32) (x : Int32) (hZ : pw_Rz R fz) : pw_RO l yX1_heightWith cX1_heightWith 2 (some .int) ({ frames := 3, cells := 0, slots := 0, locals := 75 }) D (pw_X1 d h fz) [(d, .boolean)] [.ref (h 0), .int x] (pw_Pt (fun t w => pw_Sz R (fun i => i == t) (fun _ => false) true w) x) := by
  refine Met.ofW (cc := cX1_heightWith) (maxL := 2) (ret := (some .int)) (by decide) rfl ?_
  intro p e s m args below meth c s₁ B hml hv
  obtain ⟨rfl, hP, hK⟩ := hv
  have hx := B.exec
  have hb := B.bytes
  have hr := B.returns
  have hts := atoms_spec (ws := ws_ yX1_heightWith cX1_heightWith 2 (some .int)) B.pre
  have hts : ∀ w ∈ lw_all, w.before _ s = true := fun w h => hts w (List.mem_cons_of_mem _ h)
  have hown : s.vm.findClass RX1 = some m.cls := findClass_of_methodNamed B.named
  have hlocks := B.notSynchronized
  have hS : va_S pw_no s.heap s.heap [] := va_S.rf
  have hP : va_P D pw_cl (pw_X1 d h fz) s.heap := hP
  have hK : va_K D pw_cl [(d, .boolean)] s := hK
  have hl := lv_entry ([.ref (h 0), .int x]) (n := 2) (Nat.le_of_ble_eq_true rfl)
  rw [lg_entry_eq]
  generalize (lg_sl ([.ref (h 0), .int x]) ++ List.replicate (2 - (lg_sl ([.ref (h 0), .int x])).length) Slot.unset).toArray = ls at hl ⊢
  have hl : lv_has ls 2 [(0, .ref (h 0)), (1, .int x)] := hl
  refine lv_iload_n hx hb dX1_heightWith_0 rfl (lv_at hl 1 rfl) ?_
  refine pw_callS (As := [.int x]) (rest := []) ⟨hx, hb, hml, hown, hts⟩ (metX1_bad l D x) (va_cwS 1 hts (lw_S q140 q141 q14 q142) rfl rfl rfl (by decide +kernel) ⟨Nat.le_of_ble_eq_true rfl, Nat.le_of_ble_eq_true rfl⟩) hK hS rfl hl.1 rfl (Nat.le_of_ble_eq_true rfl) dX1_heightWith_1 ⟨Nat.zero_le _, Nat.zero_le _⟩ (fun r1 H locs er1 hk hS => ?_)
  have hP := pw_keep hP hk
  subst er1
  refine lv_if_eq (tgt := 11) hx hb dX1_heightWith_4 (by decide) (fun c4 => ?_) (fun c4 => ?_)
  · obtain ⟨t, ht, rfl⟩ := pw_th_of (pw_nb0 c4)
    refine lv_aload_n hx hb dX1_heightWith_11 rfl (lv_at hl 0 rfl) ?_
    refine lv_iconst (v := 1) hx hb dX1_heightWith_12 (by decide +kernel) ?_
    refine lv_iload_n hx hb dX1_heightWith_13 rfl (lv_at hl 1 rfl) ?_
    refine lv_ishl hx hb dX1_heightWith_14 ?_
    refine pw_top (y := (pw_ms (fun i => i == t))) (pw_ms_one t ht) ?_
    refine lv_iconst (v := 0) hx hb dX1_heightWith_15 (by decide +kernel) ?_
    refine pw_top (y := (pw_ms (fun _ => false))) (pw_ms_0) ?_
    refine lv_iconst (v := 1) hx hb dX1_heightWith_16 (by decide +kernel) ?_
    refine pw_top (y := (pw_bI true)) (rfl) ?_
    refine pw_callV (As := [.int (pw_ms (fun i => i == t)), .int (pw_ms (fun _ => false)), .int (pw_bI true)]) (rest := []) ⟨hx, hb, hml, hown, hts⟩ (metX1_size l D d h R fz (fun i => i == t) (fun _ => false) true hZ) (cwV 3 hts (lw_V q159 q161 qs9 q14 q162) rfl rfl rfl (by decide +kernel) ⟨Nat.le_of_ble_eq_true rfl, Nat.le_of_ble_eq_true rfl⟩) hK hP [0] rfl (ci := 1) rfl rfl rfl hS rfl hl.1 rfl (Nat.le_of_ble_eq_true rfl) dX1_heightWith_17 ⟨Nat.zero_le _, Nat.zero_le _⟩ (fun r2 H locs er2 hk hS => ?_)
    have hP := pw_keep hP hk
    obtain ⟨w2, rfl, hw2⟩ := er2
    exact pw_ret hx hb hr hlocks hS rfl (Or.inr ⟨t, w2, ht, rfl, rfl, hw2⟩) dX1_heightWith_20
  · have ez := pw_nbn c4
    refine lv_iconst (v := (-1)) hx hb dX1_heightWith_7 (by decide +kernel) ?_
    refine lv_goto (tgt := 20) hx hb dX1_heightWith_8 (by decide) ?_
    exact pw_ret hx hb hr hlocks hS rfl (Or.inl ⟨ez, rfl⟩) dX1_heightWith_20
set_option maxHeartbeats 4000000 in
set_option maxRecDepth 100000 in
/-- chosen(x) -/
theorem metX1_chosen (l : Launch) (D : va_G) (d : ClassId) (h : Nat → Nat) (R : Nat → Nat → Bool) (fz : Nat → Int32) (x : Int32) (hZ : pw_Rz R fz) : pw_RO l yX1_chosen cX1_chosen 3 (some .int) ({ frames := 2, cells := 0, slots := 0, locals := 51 }) D (pw_X1 d h fz) [(d, .boolean)] [.ref (h 0), .int x] (pw_Pc R x) := by
  refine Met.ofW (cc := cX1_chosen) (maxL := 3) (ret := (some .int)) (by decide) rfl ?_
  intro p e s m args below meth c s₁ B hml hv
  obtain ⟨rfl, hP, hK⟩ := hv
  have hx := B.exec
  have hb := B.bytes
  have hr := B.returns
  have hts := atoms_spec (ws := ws_ yX1_chosen cX1_chosen 3 (some .int)) B.pre
  have hts : ∀ w ∈ lw_all, w.before _ s = true := fun w h => hts w (List.mem_cons_of_mem _ h)
  have hown : s.vm.findClass RX1 = some m.cls := findClass_of_methodNamed B.named
  have hlocks := B.notSynchronized
  have hS : va_S pw_no s.heap s.heap [] := va_S.rf
  have hP : va_P D pw_cl (pw_X1 d h fz) s.heap := hP
  have hK : va_K D pw_cl [(d, .boolean)] s := hK
  have hl := lv_entry ([.ref (h 0), .int x]) (n := 3) (Nat.le_of_ble_eq_true rfl)
  rw [lg_entry_eq]
  generalize (lg_sl ([.ref (h 0), .int x]) ++ List.replicate (3 - (lg_sl ([.ref (h 0), .int x])).length) Slot.unset).toArray = ls at hl ⊢
  have hl : lv_has ls 3 [(0, .ref (h 0)), (1, .int x)] := hl
  refine lv_iload_n hx hb dX1_chosen_0 rfl (lv_at hl 1 rfl) ?_
  refine pw_callS (As := [.int x]) (rest := []) ⟨hx, hb, hml, hown, hts⟩ (metX1_bad l D x) (va_cwS 1 hts (lw_S q140 q141 q14 q142) rfl rfl rfl (by decide +kernel) ⟨Nat.le_of_ble_eq_true rfl, Nat.le_of_ble_eq_true rfl⟩) hK hS rfl hl.1 rfl (Nat.le_of_ble_eq_true rfl) dX1_chosen_1 ⟨Nat.zero_le _, Nat.zero_le _⟩ (fun r1 H locs er1 hk hS => ?_)
  have hP := pw_keep hP hk
  subst er1
  refine lv_if_eq (tgt := 9) hx hb dX1_chosen_4 (by decide) (fun c4 => ?_) (fun c4 => ?_)
  · obtain ⟨t, ht, rfl⟩ := pw_th_of (pw_nb0 c4)
    refine lv_aload_n hx hb dX1_chosen_9 rfl (lv_at hl 0 rfl) ?_
    refine lv_iconst (v := 0) hx hb dX1_chosen_10 (by decide +kernel) ?_
    refine pw_top (y := (pw_ms (fun _ => false))) (pw_ms_0) ?_
    refine lv_iconst (v := 0) hx hb dX1_chosen_11 (by decide +kernel) ?_
    refine pw_top (y := (pw_ms (fun _ => false))) (pw_ms_0) ?_
    refine lv_iconst (v := 0) hx hb dX1_chosen_12 (by decide +kernel) ?_
    refine pw_top (y := (pw_bI false)) (rfl) ?_
    refine pw_callV (As := [.int (pw_ms (fun _ => false)), .int (pw_ms (fun _ => false)), .int (pw_bI false)]) (rest := []) ⟨hx, hb, hml, hown, hts⟩ (metX1_greatest l D d h R fz (fun _ => false) (fun _ => false) false hZ) (cwV 3 hts (lw_V q163 q165 qs10 q14 q166) rfl rfl rfl (by decide +kernel) ⟨Nat.le_of_ble_eq_true rfl, Nat.le_of_ble_eq_true rfl⟩) hK hP [0] rfl (ci := 1) rfl rfl rfl hS rfl hl.1 rfl (Nat.le_of_ble_eq_true rfl) dX1_chosen_13 ⟨Nat.zero_le _, Nat.zero_le _⟩ (fun r2 H locs er2 hk hS => ?_)
    have hP := pw_keep hP hk
    obtain ⟨o, rfl, hG⟩ := er2
    obtain ⟨j, rfl, hB⟩ := pw_best_any hG
    refine lv_istore_n (lv' := [(2, .int (pw_oI (some j))), (0, .ref (h 0)), (1, .int (nI t))]) hx hb dX1_chosen_16 rfl hl (by decide) rfl (fun ls hl => ?_)
    refine lv_iload_n hx hb dX1_chosen_17 rfl (lv_at hl 0 rfl) ?_
    refine pw_top (y := (pw_ms (pw_tb j))) (pw_ms_nI hB.1) ?_
    refine lv_iload_n hx hb dX1_chosen_18 rfl (lv_at hl 2 rfl) ?_
    refine lv_ishr hx hb dX1_chosen_19 ?_
    refine lv_iconst (v := 1) hx hb dX1_chosen_20 (by decide +kernel) ?_
    refine lv_iand hx hb dX1_chosen_21 ?_
    refine pw_top (y := (pw_bI (pw_tb j t))) (pw_ms_bitS _ ht) ?_
    exact pw_ret hx hb hr hlocks hS rfl (Or.inr ⟨t, j, ht, rfl, rfl, hB⟩) dX1_chosen_22
  · have ez := pw_nbn c4
    refine lv_iconst (v := (-1)) hx hb dX1_chosen_7 (by decide +kernel) ?_
    exact pw_ret hx hb hr hlocks hS rfl (Or.inl ⟨ez, rfl⟩) dX1_chosen_8
set_option maxHeartbeats 4000000 in
set_option maxRecDepth 100000 in
/-- widthBeside(x, up) -/
theorem metX1_widthBeside (l : Launch) (D : va_G) (d : ClassId) (h : Nat → Nat) (R : Nat → Nat → Bool) (fz : Nat → Int32) (x : Int32) (up : Bool) (hZ : pw_Rz R fz) : pw_RO l yX1_widthBeside cX1_widthBeside 6 (some .int) ({ frames := 3, cells := 0, slots := 0, locals := 75 }) D (pw_X1 d h fz) [(d, .boolean)] [.ref (h 0), .int x, .int (pw_bI up)] (pw_Pt (fun t w => pw_Sz R (fun _ => false) (fun i => !pw_sd R t up i) false w) x) := by
  refine Met.ofW (cc := cX1_widthBeside) (maxL := 6) (ret := (some .int)) (by decide) rfl ?_
  intro p e s m args below meth c s₁ B hml hv
  obtain ⟨rfl, hP, hK⟩ := hv
  have hx := B.exec
  have hb := B.bytes
  have hr := B.returns
  have hts := atoms_spec (ws := ws_ yX1_widthBeside cX1_widthBeside 6 (some .int)) B.pre
  have hts : ∀ w ∈ lw_all, w.before _ s = true := fun w h => hts w (List.mem_cons_of_mem _ h)
  have hown : s.vm.findClass RX1 = some m.cls := findClass_of_methodNamed B.named
  have hlocks := B.notSynchronized
  have hS : va_S pw_no s.heap s.heap [] := va_S.rf
  have hP : va_P D pw_cl (pw_X1 d h fz) s.heap := hP
  have hK : va_K D pw_cl [(d, .boolean)] s := hK
  have hl := lv_entry ([.ref (h 0), .int x, .int (pw_bI up)]) (n := 6) (Nat.le_of_ble_eq_true rfl)
  rw [lg_entry_eq]
  generalize (lg_sl ([.ref (h 0), .int x, .int (pw_bI up)]) ++ List.replicate (6 - (lg_sl ([.ref (h 0), .int x, .int (pw_bI up)])).length) Slot.unset).toArray = ls at hl ⊢
  have hl : lv_has ls 6 [(0, .ref (h 0)), (1, .int x), (2, .int (pw_bI up))] := hl
  refine lv_iload_n hx hb dX1_widthBeside_0 rfl (lv_at hl 1 rfl) ?_
  refine pw_callS (As := [.int x]) (rest := []) ⟨hx, hb, hml, hown, hts⟩ (metX1_bad l D x) (va_cwS 1 hts (lw_S q140 q141 q14 q142) rfl rfl rfl (by decide +kernel) ⟨Nat.le_of_ble_eq_true rfl, Nat.le_of_ble_eq_true rfl⟩) hK hS rfl hl.1 rfl (Nat.le_of_ble_eq_true rfl) dX1_widthBeside_1 ⟨Nat.zero_le _, Nat.zero_le _⟩ (fun r1 H locs er1 hk hS => ?_)
  have hP := pw_keep hP hk
  subst er1
  refine lv_if_eq (tgt := 9) hx hb dX1_widthBeside_4 (by decide) (fun c4 => ?_) (fun c4 => ?_)
  · obtain ⟨v, hv9, rfl⟩ := pw_th_of (pw_nb0 c4)
    refine lv_iconst (v := 0) hx hb dX1_widthBeside_9 (by decide +kernel) ?_
    refine pw_top (y := (pw_ms (fun _ => false))) (pw_ms_0) ?_
    refine lv_istore_n (lv' := [(3, .int (pw_ms (fun _ => false))), (0, .ref (h 0)), (1, .int (nI v)), (2, .int (pw_bI up))]) hx hb dX1_widthBeside_10 rfl hl (by decide) rfl (fun ls hl => ?_)
    refine lv_iconst (v := (nI 0)) hx hb dX1_widthBeside_11 (by decide +kernel) ?_
    refine lv_istore (lv' := [(4, .int (nI 0)), (3, .int (pw_ms (fun _ => false))), (0, .ref (h 0)), (1, .int (nI v)), (2, .int (pw_bI up))]) hx hb dX1_widthBeside_12 hl (by decide) rfl (fun ls hl => ?_)
    have LOOP14 : ∀ (n : Nat) (t : Nat) (L : Nat → Bool), t ≤ 10 → 10 + 1 ≤ t + n → (∀ i, i < 10 → L i = (decide (i < t) && !pw_sd R v up i)) → ∀ (H : Heap) (locs : List Loc), va_P D pw_cl (pw_X1 d h fz) H → va_S pw_no s.heap H locs → ∀ (ls : Array Slot), lv_has ls 6 [(0, .ref (h 0)), (1, .int (nI v)), (2, .int (pw_bI up)), (3, .int (pw_ms L)), (4, .int (nI t))] → W p l e (headSpec (ws_ yX1_widthBeside cX1_widthBeside 6 (some .int)) ({ frames := 3, cells := 0, slots := 0, locals := 75 })).room s m ([.ref (h 0), .int (nI v), .int (pw_bI up)] : List Value).toArray below meth c H locs 0 0 (MQ below (pw_Q (pw_Pt (fun t w => pw_Sz R (fun _ => false) (fun i => !pw_sd R t up i) false w) (nI v))) ([.ref (h 0), .int (nI v), .int (pw_bI up)] : List Value).toArray s 0 0 pw_no) (F0 m 14 ls []) := by
      intro n
      induction n with
      | zero =>
        intro t L hi hn hL
        exfalso; omega
      | succ n ih14 =>
        intro t L hi hn hL H locs hP hS ls hl
        refine lv_iload hx hb dX1_widthBeside_14 (lv_at hl 4 rfl) ?_
        refine lv_bipush (v := (nI 10)) hx hb dX1_widthBeside_16 (by decide +kernel) ?_
        refine lv_icmp_ge (tgt := 72) hx hb dX1_widthBeside_18 (by decide) (fun c18 => ?_) (fun c18 => ?_)
        · have ht : t = 10 := pw_ge c18 hi (by decide)
          refine lv_aload_n hx hb dX1_widthBeside_72 rfl (lv_at hl 0 rfl) ?_
          refine lv_iconst (v := 0) hx hb dX1_widthBeside_73 (by decide +kernel) ?_
          refine pw_top (y := (pw_ms (fun _ => false))) (pw_ms_0) ?_
          refine lv_iload_n hx hb dX1_widthBeside_74 rfl (lv_at hl 3 rfl) ?_
          refine pw_top (y := (pw_ms (fun i => !pw_sd R v up i))) (pw_ms_ext (fun i hi9 => by rw [hL i hi9, ht]; simp [hi9])) ?_
          refine lv_iconst (v := 0) hx hb dX1_widthBeside_75 (by decide +kernel) ?_
          refine pw_top (y := (pw_bI false)) (rfl) ?_
          refine pw_callV (As := [.int (pw_ms (fun _ => false)), .int (pw_ms (fun i => !pw_sd R v up i)), .int (pw_bI false)]) (rest := []) ⟨hx, hb, hml, hown, hts⟩ (metX1_size l D d h R fz (fun _ => false) (fun i => !pw_sd R v up i) false hZ) (cwV 3 hts (lw_V q159 q161 qs9 q14 q162) rfl rfl rfl (by decide +kernel) ⟨Nat.le_of_ble_eq_true rfl, Nat.le_of_ble_eq_true rfl⟩) hK hP [0] rfl (ci := 1) rfl rfl rfl hS rfl hl.1 rfl (Nat.le_of_ble_eq_true rfl) dX1_widthBeside_76 ⟨Nat.zero_le _, Nat.zero_le _⟩ (fun r2 H locs er2 hk hS => ?_)
          have hP := pw_keep hP hk
          obtain ⟨w2, rfl, hw2⟩ := er2
          exact pw_ret hx hb hr hlocks hS rfl (Or.inr ⟨v, w2, hv9, rfl, rfl, hw2⟩) dX1_widthBeside_79
        · have ht : t < 10 := pw_lt c18 hi (by decide)
          refine lv_iload_n hx hb dX1_widthBeside_21 rfl (lv_at hl 2 rfl) ?_
          refine lv_if_eq (tgt := 40) hx hb dX1_widthBeside_22 (by decide) (fun c22 => ?_) (fun c22 => ?_)
          · have es : pw_sd R v up t = R t v := by rw [pw_bI_0.mp c22]; rfl
            refine lv_aload_n hx hb dX1_widthBeside_40 rfl (lv_at hl 0 rfl) ?_
            refine va_get (D := D) (ci := 1) (v := .ref (h 1)) (C := RX1) (T := TX1) (N := 1) hx hb hts in_X1 hown hK hP 0 rfl rfl 0 (by decide) (hts _ q131) (fun _ h9 => h9) rfl dX1_widthBeside_41 ?_
            refine lv_bipush (v := (nI 10)) hx hb dX1_widthBeside_44 (by decide +kernel) ?_
            refine lv_iload hx hb dX1_widthBeside_46 (lv_at hl 4 rfl) ?_
            refine lv_imul hx hb dX1_widthBeside_48 ?_
            refine pw_top (y := (nI (10 * t))) (pk_mul _ _) ?_
            refine lv_iload_n hx hb dX1_widthBeside_49 rfl (lv_at hl 1 rfl) ?_
            refine lv_iadd hx hb dX1_widthBeside_50 ?_
            refine pw_top (y := (nI (10 * t + v))) (nI_add _ _) ?_
            refine pw_zald hx hb hK hP 1 0 rfl rfl (by omega) (by decide) dX1_widthBeside_51 ?_
            refine pw_top (y := (pw_bI (R t v))) (hZ t v ht hv9) ?_
            refine lv_istore (lv' := [(5, .int (pw_bI (R t v))), (0, .ref (h 0)), (1, .int (nI v)), (2, .int (pw_bI up)), (3, .int (pw_ms L)), (4, .int (nI t))]) hx hb dX1_widthBeside_52 hl (by decide) rfl (fun ls hl => ?_)
            refine lv_iload hx hb dX1_widthBeside_54 (lv_at hl 0 rfl) ?_
            refine lv_if_ne (tgt := 66) hx hb dX1_widthBeside_56 (by decide) (fun c56 => ?_) (fun c56 => ?_)
            · have hy : (!pw_sd R v up t) = false := by rw [es, pw_bI_n.mp c56]; rfl
              refine lv_iinc (v := (nI (t + 1))) (lv' := [(4, .int (nI (t + 1))), (5, .int (pw_bI (R t v))), (0, .ref (h 0)), (1, .int (nI v)), (2, .int (pw_bI up)), (3, .int (pw_ms L))]) hx hb dX1_widthBeside_66 hl (k := 5) rfl (pw_inc _) (by decide) rfl (fun ls hl => ?_)
              refine lv_goto (tgt := 14) hx hb dX1_widthBeside_69 (by decide) ?_
              exact ih14 (t + 1) L (by omega) (by omega) (pw_bel_no hL hy) _ _ hP hS ls (lv_sub hl [2, 3, 4, 5, 0] rfl)
            · have hy : (!pw_sd R v up t) = true := by rw [es, pw_bI_0.mp c56]; rfl
              refine lv_iload_n hx hb dX1_widthBeside_59 rfl (lv_at hl 4 rfl) ?_
              refine lv_iconst (v := 1) hx hb dX1_widthBeside_60 (by decide +kernel) ?_
              refine lv_iload hx hb dX1_widthBeside_61 (lv_at hl 5 rfl) ?_
              refine lv_ishl hx hb dX1_widthBeside_63 ?_
              refine pw_top (y := (pw_ms (fun i => i == t))) (pw_ms_one t ht) ?_
              refine lv_ior hx hb dX1_widthBeside_64 ?_
              refine pw_top (y := (pw_ms (fun i => L i || (i == t)))) (pw_ms_or _ _) ?_
              refine lv_istore_n (lv' := [(3, .int (pw_ms (fun i => L i || (i == t)))), (5, .int (pw_bI (R t v))), (0, .ref (h 0)), (1, .int (nI v)), (2, .int (pw_bI up)), (4, .int (nI t))]) hx hb dX1_widthBeside_65 rfl hl (by decide) rfl (fun ls hl => ?_)
              refine lv_iinc (v := (nI (t + 1))) (lv' := [(4, .int (nI (t + 1))), (3, .int (pw_ms (fun i => L i || (i == t)))), (5, .int (pw_bI (R t v))), (0, .ref (h 0)), (1, .int (nI v)), (2, .int (pw_bI up))]) hx hb dX1_widthBeside_66 hl (k := 5) rfl (pw_inc _) (by decide) rfl (fun ls hl => ?_)
              refine lv_goto (tgt := 14) hx hb dX1_widthBeside_69 (by decide) ?_
              exact ih14 (t + 1) (fun i => L i || (i == t)) (by omega) (by omega) (pw_bel_yes hL hy) _ _ hP hS ls (lv_sub hl [3, 4, 5, 1, 0] rfl)
          · have es : pw_sd R v up t = R v t := by rw [pw_bI_n.mp c22]; rfl
            refine lv_aload_n hx hb dX1_widthBeside_25 rfl (lv_at hl 0 rfl) ?_
            refine va_get (D := D) (ci := 1) (v := .ref (h 1)) (C := RX1) (T := TX1) (N := 1) hx hb hts in_X1 hown hK hP 0 rfl rfl 0 (by decide) (hts _ q131) (fun _ h9 => h9) rfl dX1_widthBeside_26 ?_
            refine lv_bipush (v := (nI 10)) hx hb dX1_widthBeside_29 (by decide +kernel) ?_
            refine lv_iload_n hx hb dX1_widthBeside_31 rfl (lv_at hl 1 rfl) ?_
            refine lv_imul hx hb dX1_widthBeside_32 ?_
            refine pw_top (y := (nI (10 * v))) (pk_mul _ _) ?_
            refine lv_iload hx hb dX1_widthBeside_33 (lv_at hl 4 rfl) ?_
            refine lv_iadd hx hb dX1_widthBeside_35 ?_
            refine pw_top (y := (nI (10 * v + t))) (nI_add _ _) ?_
            refine pw_zald hx hb hK hP 1 0 rfl rfl (by omega) (by decide) dX1_widthBeside_36 ?_
            refine pw_top (y := (pw_bI (R v t))) (hZ v t hv9 ht) ?_
            refine lv_goto (tgt := 52) hx hb dX1_widthBeside_37 (by decide) ?_
            refine lv_istore (lv' := [(5, .int (pw_bI (R v t))), (0, .ref (h 0)), (1, .int (nI v)), (2, .int (pw_bI up)), (3, .int (pw_ms L)), (4, .int (nI t))]) hx hb dX1_widthBeside_52 hl (by decide) rfl (fun ls hl => ?_)
            refine lv_iload hx hb dX1_widthBeside_54 (lv_at hl 0 rfl) ?_
            refine lv_if_ne (tgt := 66) hx hb dX1_widthBeside_56 (by decide) (fun c56 => ?_) (fun c56 => ?_)
            · have hy : (!pw_sd R v up t) = false := by rw [es, pw_bI_n.mp c56]; rfl
              refine lv_iinc (v := (nI (t + 1))) (lv' := [(4, .int (nI (t + 1))), (5, .int (pw_bI (R v t))), (0, .ref (h 0)), (1, .int (nI v)), (2, .int (pw_bI up)), (3, .int (pw_ms L))]) hx hb dX1_widthBeside_66 hl (k := 5) rfl (pw_inc _) (by decide) rfl (fun ls hl => ?_)
              refine lv_goto (tgt := 14) hx hb dX1_widthBeside_69 (by decide) ?_
              exact ih14 (t + 1) L (by omega) (by omega) (pw_bel_no hL hy) _ _ hP hS ls (lv_sub hl [2, 3, 4, 5, 0] rfl)
            · have hy : (!pw_sd R v up t) = true := by rw [es, pw_bI_0.mp c56]; rfl
              refine lv_iload_n hx hb dX1_widthBeside_59 rfl (lv_at hl 4 rfl) ?_
              refine lv_iconst (v := 1) hx hb dX1_widthBeside_60 (by decide +kernel) ?_
              refine lv_iload hx hb dX1_widthBeside_61 (lv_at hl 5 rfl) ?_
              refine lv_ishl hx hb dX1_widthBeside_63 ?_
              refine pw_top (y := (pw_ms (fun i => i == t))) (pw_ms_one t ht) ?_
              refine lv_ior hx hb dX1_widthBeside_64 ?_
              refine pw_top (y := (pw_ms (fun i => L i || (i == t)))) (pw_ms_or _ _) ?_
              refine lv_istore_n (lv' := [(3, .int (pw_ms (fun i => L i || (i == t)))), (5, .int (pw_bI (R v t))), (0, .ref (h 0)), (1, .int (nI v)), (2, .int (pw_bI up)), (4, .int (nI t))]) hx hb dX1_widthBeside_65 rfl hl (by decide) rfl (fun ls hl => ?_)
              refine lv_iinc (v := (nI (t + 1))) (lv' := [(4, .int (nI (t + 1))), (3, .int (pw_ms (fun i => L i || (i == t)))), (5, .int (pw_bI (R v t))), (0, .ref (h 0)), (1, .int (nI v)), (2, .int (pw_bI up))]) hx hb dX1_widthBeside_66 hl (k := 5) rfl (pw_inc _) (by decide) rfl (fun ls hl => ?_)
              refine lv_goto (tgt := 14) hx hb dX1_widthBeside_69 (by decide) ?_
              exact ih14 (t + 1) (fun i => L i || (i == t)) (by omega) (by omega) (pw_bel_yes hL hy) _ _ hP hS ls (lv_sub hl [3, 4, 5, 1, 0] rfl)
    exact LOOP14 11 0 (fun _ => false) (by omega) (by omega) (fun i _ => by simp) _ _ hP hS ls (lv_sub hl [2, 3, 4, 1, 0] rfl)
  · have ez := pw_nbn c4
    refine lv_iconst (v := (-1)) hx hb dX1_widthBeside_7 (by decide +kernel) ?_
    exact pw_ret hx hb hr hlocks hS rfl (Or.inl ⟨ez, rfl⟩) dX1_widthBeside_8
set_option maxHeartbeats 4000000 in
set_option maxRecDepth 100000 in
/-- release(x) -/
theorem metX1_release (l : Launch) (D : va_G) (d : ClassId) (h : Nat → Nat) (hj : ∀ i j, i < 2 → j < 2 → h i = h j → i = j) (R : Nat → Nat → Bool) (fz : Nat → Int32) (x : Int32) (hZ : pw_Rz R fz) : pw_MZ l yX1_release cX1_release 3 (some .int) ({ frames := 1, cells := 0, slots := 0, locals := 22 }) D d h fz [.ref (h 0), .int x] (fun r z => pw_Pr R x r (z = fz) (fun R2 => pw_Rz R2 z)) := by
  refine Met.ofW (cc := cX1_release) (maxL := 3) (ret := (some .int)) (by decide) rfl ?_
  intro p e s m args below meth c s₁ B hml hv
  obtain ⟨rfl, hP, hK⟩ := hv
  have hx := B.exec
  have hb := B.bytes
  have hr := B.returns
  have hts := atoms_spec (ws := ws_ yX1_release cX1_release 3 (some .int)) B.pre
  have hts : ∀ w ∈ lw_all, w.before _ s = true := fun w h => hts w (List.mem_cons_of_mem _ h)
  have hown : s.vm.findClass RX1 = some m.cls := findClass_of_methodNamed B.named
  have hlocks := B.notSynchronized
  have hS : va_S (pw_AX h 2) s.heap s.heap [] := va_S.rf
  have hP : va_P D pw_cl (pw_X1 d h fz) s.heap := hP
  have hK : va_K D pw_cl [(d, .boolean)] s := hK
  have hl := lv_entry ([.ref (h 0), .int x]) (n := 3) (Nat.le_of_ble_eq_true rfl)
  rw [lg_entry_eq]
  generalize (lg_sl ([.ref (h 0), .int x]) ++ List.replicate (3 - (lg_sl ([.ref (h 0), .int x])).length) Slot.unset).toArray = ls at hl ⊢
  have hl : lv_has ls 3 [(0, .ref (h 0)), (1, .int x)] := hl
  refine lv_iload_n hx hb dX1_release_0 rfl (lv_at hl 1 rfl) ?_
  refine pw_callS (As := [.int x]) (rest := []) ⟨hx, hb, hml, hown, hts⟩ (metX1_bad l D x) (va_cwS 1 hts (lw_S q140 q141 q14 q142) rfl rfl rfl (by decide +kernel) ⟨Nat.le_of_ble_eq_true rfl, Nat.le_of_ble_eq_true rfl⟩) hK hS rfl hl.1 rfl (Nat.le_of_ble_eq_true rfl) dX1_release_1 ⟨Nat.zero_le _, Nat.zero_le _⟩ (fun r1 H locs er1 hk hS => ?_)
  have hP := pw_keep hP hk
  subst er1
  refine lv_if_eq (tgt := 9) hx hb dX1_release_4 (by decide) (fun c4 => ?_) (fun c4 => ?_)
  · obtain ⟨v, hv9, rfl⟩ := pw_th_of (pw_nb0 c4)
    refine lv_iconst (v := (nI 0)) hx hb dX1_release_9 (by decide +kernel) ?_
    refine lv_istore_n (lv' := [(2, .int (nI 0)), (0, .ref (h 0)), (1, .int (nI v))]) hx hb dX1_release_10 rfl hl (by decide) rfl (fun ls hl => ?_)
    have LOOP11 : ∀ (n : Nat) (t : Nat) (gz : Nat → Int32), t ≤ 10 → 10 + 1 ≤ t + n → pw_Rz (pw_rlt R v t) gz → ∀ (H : Heap) (locs : List Loc), va_P D pw_cl (pw_X1 d h gz) H → va_S (pw_AX h 2) s.heap H locs → ∀ (ls : Array Slot), lv_has ls 3 [(0, .ref (h 0)), (1, .int (nI v)), (2, .int (nI t))] → W p l e (headSpec (ws_ yX1_release cX1_release 3 (some .int)) ({ frames := 1, cells := 0, slots := 0, locals := 22 })).room s m ([.ref (h 0), .int (nI v)] : List Value).toArray below meth c H locs 0 0 (MQ below (pw_Q1 (fun r z => pw_Pr R (nI v) r (z = fz) (fun R2 => pw_Rz R2 z)) D d h) ([.ref (h 0), .int (nI v)] : List Value).toArray s 0 0 (pw_AX h 2)) (F0 m 11 ls []) := by
      intro n
      induction n with
      | zero =>
        intro t gz hi hn hY
        exfalso; omega
      | succ n ih11 =>
        intro t gz hi hn hY H locs hP hS ls hl
        refine lv_iload_n hx hb dX1_release_11 rfl (lv_at hl 2 rfl) ?_
        refine lv_bipush (v := (nI 10)) hx hb dX1_release_12 (by decide +kernel) ?_
        refine lv_icmp_ge (tgt := 47) hx hb dX1_release_14 (by decide) (fun c14 => ?_) (fun c14 => ?_)
        · have ht : t = 10 := pw_ge c14 hi (by decide)
          have hZ2 := pw_rlt_e (by rw [ht] at hY; exact hY)
          refine lv_aload_n hx hb dX1_release_47 rfl (lv_at hl 0 rfl) ?_
          refine pw_callV (As := []) (rest := []) ⟨hx, hb, hml, hown, hts⟩ (metX1_pairs l D d h (pw_rel R v) gz hZ2) (cwV 0 hts (lw_V q143 q145 qs8 q14 q146) rfl rfl rfl (by decide +kernel) ⟨Nat.le_of_ble_eq_true rfl, Nat.le_of_ble_eq_true rfl⟩) hK hP [0] rfl (ci := 1) rfl rfl rfl hS rfl hl.1 rfl (Nat.le_of_ble_eq_true rfl) dX1_release_48 ⟨Nat.zero_le _, Nat.zero_le _⟩ (fun r2 H locs er2 hk hS => ?_)
          have hP := pw_keep hP hk
          subst er2
          exact pw_ret1 hx hb hr hlocks hP hS rfl (Or.inr ⟨v, hv9, rfl, rfl, hZ2⟩) dX1_release_51
        · have ht : t < 10 := pw_lt c14 hi (by decide)
          refine lv_aload_n hx hb dX1_release_17 rfl (lv_at hl 0 rfl) ?_
          refine va_get (D := D) (ci := 1) (v := .ref (h 1)) (C := RX1) (T := TX1) (N := 1) hx hb hts in_X1 hown hK hP 0 rfl rfl 0 (by decide) (hts _ q131) (fun _ h9 => h9) rfl dX1_release_18 ?_
          refine lv_bipush (v := (nI 10)) hx hb dX1_release_21 (by decide +kernel) ?_
          refine lv_iload_n hx hb dX1_release_23 rfl (lv_at hl 2 rfl) ?_
          refine lv_imul hx hb dX1_release_24 ?_
          refine pw_top (y := (nI (10 * t))) (pk_mul _ _) ?_
          refine lv_iload_n hx hb dX1_release_25 rfl (lv_at hl 1 rfl) ?_
          refine lv_iadd hx hb dX1_release_26 ?_
          refine pw_top (y := (nI (10 * t + v))) (nI_add _ _) ?_
          refine lv_iconst (v := 0) hx hb dX1_release_27 (by decide +kernel) ?_
          refine pw_zast hx hb hK hP (pw_X1_D hj pw_AXi) hS 1 0 rfl rfl rfl (by omega) (by decide) dX1_release_28 (fun H locs hP hS => ?_)
          have hP : va_P D pw_cl (pw_X1 d h (upd gz ((10 * t + v)) 0)) H := hP
          refine lv_aload_n hx hb dX1_release_29 rfl (lv_at hl 0 rfl) ?_
          refine va_get (D := D) (ci := 1) (v := .ref (h 1)) (C := RX1) (T := TX1) (N := 1) hx hb hts in_X1 hown hK hP 0 rfl rfl 0 (by decide) (hts _ q131) (fun _ h9 => h9) rfl dX1_release_30 ?_
          refine lv_bipush (v := (nI 10)) hx hb dX1_release_33 (by decide +kernel) ?_
          refine lv_iload_n hx hb dX1_release_35 rfl (lv_at hl 1 rfl) ?_
          refine lv_imul hx hb dX1_release_36 ?_
          refine pw_top (y := (nI (10 * v))) (pk_mul _ _) ?_
          refine lv_iload_n hx hb dX1_release_37 rfl (lv_at hl 2 rfl) ?_
          refine lv_iadd hx hb dX1_release_38 ?_
          refine pw_top (y := (nI (10 * v + t))) (nI_add _ _) ?_
          refine lv_iconst (v := 0) hx hb dX1_release_39 (by decide +kernel) ?_
          refine pw_zast hx hb hK hP (pw_X1_D hj pw_AXi) hS 1 0 rfl rfl rfl (by omega) (by decide) dX1_release_40 (fun H locs hP hS => ?_)
          have hP : va_P D pw_cl (pw_X1 d h (upd (upd gz ((10 * t + v)) 0) ((10 * v + t)) 0)) H := hP
          refine lv_iinc (v := (nI (t + 1))) (lv' := [(2, .int (nI (t + 1))), (0, .ref (h 0)), (1, .int (nI v))]) hx hb dX1_release_41 hl (k := 2) rfl (pw_inc _) (by decide) rfl (fun ls hl => ?_)
          refine lv_goto (tgt := 11) hx hb dX1_release_44 (by decide) ?_
          exact ih11 (t + 1) _ (by omega) (by omega) (pw_rlt_s hv9 ht hY) _ _ hP hS ls (lv_sub hl [1, 2, 0] rfl)
    exact LOOP11 11 0 fz (by omega) (by omega) (pw_rlt_0 hZ) _ _ hP hS ls (lv_sub hl [1, 2, 0] rfl)
  · have ez := pw_nbn c4
    refine lv_iconst (v := (-1)) hx hb dX1_release_7 (by decide +kernel) ?_
    exact pw_ret1 hx hb hr hlocks hP hS rfl (Or.inl ⟨ez, rfl, rfl⟩) dX1_release_8
set_option maxHeartbeats 4000000 in
set_option maxRecDepth 100000 in
/-- put(x, y) -/
theorem metX1_put (l : Launch) (D : va_G) (d : ClassId) (h : Nat → Nat) (hj : ∀ i j, i < 2 → j < 2 → h i = h j → i = j) (R : Nat → Nat → Bool) (fz : Nat → Int32) (x y : Int32) (hZ : pw_Rz R fz) : pw_MZ l yX1_put cX1_put 7 (some .int) ({ frames := 1, cells := 0, slots := 0, locals := 22 }) D d h fz [.ref (h 0), .int x, .int y] (fun r z => pw_Pp R x y r (z = fz) (fun R2 => pw_Rz R2 z)) := by
  refine Met.ofW (cc := cX1_put) (maxL := 7) (ret := (some .int)) (by decide) rfl ?_
  intro p e s m args below meth c s₁ B hml hv
  obtain ⟨rfl, hP, hK⟩ := hv
  have hx := B.exec
  have hb := B.bytes
  have hr := B.returns
  have hts := atoms_spec (ws := ws_ yX1_put cX1_put 7 (some .int)) B.pre
  have hts : ∀ w ∈ lw_all, w.before _ s = true := fun w h => hts w (List.mem_cons_of_mem _ h)
  have hown : s.vm.findClass RX1 = some m.cls := findClass_of_methodNamed B.named
  have hlocks := B.notSynchronized
  have hS : va_S (pw_AX h 2) s.heap s.heap [] := va_S.rf
  have hP : va_P D pw_cl (pw_X1 d h fz) s.heap := hP
  have hK : va_K D pw_cl [(d, .boolean)] s := hK
  have hl := lv_entry ([.ref (h 0), .int x, .int y]) (n := 7) (Nat.le_of_ble_eq_true rfl)
  rw [lg_entry_eq]
  generalize (lg_sl ([.ref (h 0), .int x, .int y]) ++ List.replicate (7 - (lg_sl ([.ref (h 0), .int x, .int y])).length) Slot.unset).toArray = ls at hl ⊢
  have hl : lv_has ls 7 [(0, .ref (h 0)), (1, .int x), (2, .int y)] := hl
  refine lv_iload_n hx hb dX1_put_0 rfl (lv_at hl 1 rfl) ?_
  refine pw_callS (As := [.int x]) (rest := []) ⟨hx, hb, hml, hown, hts⟩ (metX1_bad l D x) (va_cwS 1 hts (lw_S q140 q141 q14 q142) rfl rfl rfl (by decide +kernel) ⟨Nat.le_of_ble_eq_true rfl, Nat.le_of_ble_eq_true rfl⟩) hK hS rfl hl.1 rfl (Nat.le_of_ble_eq_true rfl) dX1_put_1 ⟨Nat.zero_le _, Nat.zero_le _⟩ (fun r1 H locs er1 hk hS => ?_)
  have hP := pw_keep hP hk
  subst er1
  refine lv_if_ne (tgt := 33) hx hb dX1_put_4 (by decide) (fun c4 => ?_) (fun c4 => ?_)
  · have hno : ∀ a b, a < 10 → b < 10 → x = nI a → y = nI b → a = b ∨ R b a = true := fun a b ha _ ea _ => (pw_tf (pw_nbn c4) (by rw [ea]; exact pw_th_nI ha)).elim
    refine lv_iconst (v := (-1)) hx hb dX1_put_33 (by decide +kernel) ?_
    exact pw_ret1 hx hb hr hlocks hP hS rfl (Or.inl ⟨rfl, rfl, hno⟩) dX1_put_34
  · have e1 := pw_nb0 c4
    refine lv_iload_n hx hb dX1_put_7 rfl (lv_at hl 2 rfl) ?_
    refine pw_callS (As := [.int y]) (rest := []) ⟨hx, hb, hml, hown, hts⟩ (metX1_bad l D y) (va_cwS 1 hts (lw_S q140 q141 q14 q142) rfl rfl rfl (by decide +kernel) ⟨Nat.le_of_ble_eq_true rfl, Nat.le_of_ble_eq_true rfl⟩) hK hS rfl hl.1 rfl (Nat.le_of_ble_eq_true rfl) dX1_put_8 ⟨Nat.zero_le _, Nat.zero_le _⟩ (fun r2 H locs er2 hk hS => ?_)
    have hP := pw_keep hP hk
    subst er2
    refine lv_if_ne (tgt := 33) hx hb dX1_put_11 (by decide) (fun c11 => ?_) (fun c11 => ?_)
    · have hno : ∀ a b, a < 10 → b < 10 → x = nI a → y = nI b → a = b ∨ R b a = true := fun a b _ hb9 _ eb => (pw_tf (pw_nbn c11) (by rw [eb]; exact pw_th_nI hb9)).elim
      refine lv_iconst (v := (-1)) hx hb dX1_put_33 (by decide +kernel) ?_
      exact pw_ret1 hx hb hr hlocks hP hS rfl (Or.inl ⟨rfl, rfl, hno⟩) dX1_put_34
    · have e2 := pw_nb0 c11
      refine lv_iload_n hx hb dX1_put_14 rfl (lv_at hl 1 rfl) ?_
      refine lv_iload_n hx hb dX1_put_15 rfl (lv_at hl 2 rfl) ?_
      refine lv_icmp_eq (tgt := 33) hx hb dX1_put_16 (by decide) (fun c16 => ?_) (fun c16 => ?_)
      · have hno : ∀ a b, a < 10 → b < 10 → x = nI a → y = nI b → a = b ∨ R b a = true := fun a b ha hb9 ea eb => Or.inl ((nI_eq (by omega) (by omega)).mp (by rw [← ea, ← eb]; exact c16))
        refine lv_iconst (v := (-1)) hx hb dX1_put_33 (by decide +kernel) ?_
        exact pw_ret1 hx hb hr hlocks hP hS rfl (Or.inl ⟨rfl, rfl, hno⟩) dX1_put_34
      · obtain ⟨a, ha, rfl⟩ := pw_th_of e1
        obtain ⟨b, hb9, rfl⟩ := pw_th_of e2
        have hne : a ≠ b := fun z => c16 (by rw [z])
        refine lv_aload_n hx hb dX1_put_19 rfl (lv_at hl 0 rfl) ?_
        refine va_get (D := D) (ci := 1) (v := .ref (h 1)) (C := RX1) (T := TX1) (N := 1) hx hb hts in_X1 hown hK hP 0 rfl rfl 0 (by decide) (hts _ q131) (fun _ h9 => h9) rfl dX1_put_20 ?_
        refine lv_bipush (v := (nI 10)) hx hb dX1_put_23 (by decide +kernel) ?_
        refine lv_iload_n hx hb dX1_put_25 rfl (lv_at hl 2 rfl) ?_
        refine lv_imul hx hb dX1_put_26 ?_
        refine pw_top (y := (nI (10 * b))) (pk_mul _ _) ?_
        refine lv_iload_n hx hb dX1_put_27 rfl (lv_at hl 1 rfl) ?_
        refine lv_iadd hx hb dX1_put_28 ?_
        refine pw_top (y := (nI (10 * b + a))) (nI_add _ _) ?_
        refine pw_zald hx hb hK hP 1 0 rfl rfl (by omega) (by decide) dX1_put_29 ?_
        refine pw_top (y := (pw_bI (R b a))) (hZ b a hb9 ha) ?_
        refine lv_if_eq (tgt := 35) hx hb dX1_put_30 (by decide) (fun c30 => ?_) (fun c30 => ?_)
        · have hba := pw_bI_0.mp c30
          refine lv_iconst (v := (nI 0)) hx hb dX1_put_35 (by decide +kernel) ?_
          refine lv_istore_n (lv' := [(3, .int (nI 0)), (0, .ref (h 0)), (1, .int (nI a)), (2, .int (nI b))]) hx hb dX1_put_36 rfl hl (by decide) rfl (fun ls hl => ?_)
          have LOOP37 : ∀ (n : Nat) (s1 : Nat) (gz : Nat → Int32), s1 ≤ 10 → 10 + 1 ≤ s1 + n → pw_Rz (pw_ps R a b s1 0) gz → ∀ (H : Heap) (locs : List Loc), va_P D pw_cl (pw_X1 d h gz) H → va_S (pw_AX h 2) s.heap H locs → ∀ (ls : Array Slot), lv_has ls 7 [(0, .ref (h 0)), (1, .int (nI a)), (2, .int (nI b)), (3, .int (nI s1))] → W p l e (headSpec (ws_ yX1_put cX1_put 7 (some .int)) ({ frames := 1, cells := 0, slots := 0, locals := 22 })).room s m ([.ref (h 0), .int (nI a), .int (nI b)] : List Value).toArray below meth c H locs 0 0 (MQ below (pw_Q1 (fun r z => pw_Pp R (nI a) (nI b) r (z = fz) (fun R2 => pw_Rz R2 z)) D d h) ([.ref (h 0), .int (nI a), .int (nI b)] : List Value).toArray s 0 0 (pw_AX h 2)) (F0 m 37 ls []) := by
            intro n
            induction n with
            | zero =>
              intro s1 gz hi hn hY
              exfalso; omega
            | succ n ih37 =>
              intro s1 gz hi hn hY H locs hP hS ls hl
              refine lv_iload_n hx hb dX1_put_37 rfl (lv_at hl 3 rfl) ?_
              refine lv_bipush (v := (nI 10)) hx hb dX1_put_38 (by decide +kernel) ?_
              refine lv_icmp_ge (tgt := 142) hx hb dX1_put_40 (by decide) (fun c40 => ?_) (fun c40 => ?_)
              · have hs : s1 = 10 := pw_ge c40 hi (by decide)
                have hZ2 := pw_ps_e (by rw [hs] at hY; exact hY)
                refine lv_aload_n hx hb dX1_put_142 rfl (lv_at hl 0 rfl) ?_
                refine pw_callV (As := []) (rest := []) ⟨hx, hb, hml, hown, hts⟩ (metX1_pairs l D d h (pw_put R a b) gz hZ2) (cwV 0 hts (lw_V q143 q145 qs8 q14 q146) rfl rfl rfl (by decide +kernel) ⟨Nat.le_of_ble_eq_true rfl, Nat.le_of_ble_eq_true rfl⟩) hK hP [0] rfl (ci := 1) rfl rfl rfl hS rfl hl.1 rfl (Nat.le_of_ble_eq_true rfl) dX1_put_143 ⟨Nat.zero_le _, Nat.zero_le _⟩ (fun r3 H locs er3 hk hS => ?_)
                have hP := pw_keep hP hk
                subst er3
                exact pw_ret1 hx hb hr hlocks hP hS rfl (Or.inr ⟨a, b, ha, hb9, rfl, rfl, hne, hba, rfl, hZ2⟩) dX1_put_146
              · have hs : s1 < 10 := pw_lt c40 hi (by decide)
                refine lv_iconst (v := (nI 0)) hx hb dX1_put_43 (by decide +kernel) ?_
                refine lv_istore (lv' := [(4, .int (nI 0)), (0, .ref (h 0)), (1, .int (nI a)), (2, .int (nI b)), (3, .int (nI s1))]) hx hb dX1_put_44 hl (by decide) rfl (fun ls hl => ?_)
                have LOOP46 : ∀ (n : Nat) (t : Nat) (kz : Nat → Int32), t ≤ 10 → 10 + 1 ≤ t + n → pw_Rz (pw_ps R a b s1 t) kz → ∀ (H : Heap) (locs : List Loc), va_P D pw_cl (pw_X1 d h kz) H → va_S (pw_AX h 2) s.heap H locs → ∀ (ls : Array Slot), lv_has ls 7 [(0, .ref (h 0)), (1, .int (nI a)), (2, .int (nI b)), (3, .int (nI s1)), (4, .int (nI t))] → W p l e (headSpec (ws_ yX1_put cX1_put 7 (some .int)) ({ frames := 1, cells := 0, slots := 0, locals := 22 })).room s m ([.ref (h 0), .int (nI a), .int (nI b)] : List Value).toArray below meth c H locs 0 0 (MQ below (pw_Q1 (fun r z => pw_Pp R (nI a) (nI b) r (z = fz) (fun R2 => pw_Rz R2 z)) D d h) ([.ref (h 0), .int (nI a), .int (nI b)] : List Value).toArray s 0 0 (pw_AX h 2)) (F0 m 46 ls []) := by
                  intro n
                  induction n with
                  | zero =>
                    intro t kz hi2 hn2 hX
                    exfalso; omega
                  | succ n ih46 =>
                    intro t kz hi2 hn2 hX H locs hP hS ls hl
                    refine lv_iload hx hb dX1_put_46 (lv_at hl 4 rfl) ?_
                    refine lv_bipush (v := (nI 10)) hx hb dX1_put_48 (by decide +kernel) ?_
                    refine lv_icmp_ge (tgt := 136) hx hb dX1_put_50 (by decide) (fun c50 => ?_) (fun c50 => ?_)
                    · have ht : t = 10 := pw_ge c50 hi2 (by decide)
                      have hY2 := pw_ps_row (by rw [ht] at hX; exact hX)
                      refine lv_iinc (v := (nI (s1 + 1))) (lv' := [(3, .int (nI (s1 + 1))), (0, .ref (h 0)), (1, .int (nI a)), (2, .int (nI b)), (4, .int (nI t))]) hx hb dX1_put_136 hl (k := 3) rfl (pw_inc _) (by decide) rfl (fun ls hl => ?_)
                      refine lv_goto (tgt := 37) hx hb dX1_put_139 (by decide) ?_
                      exact ih37 (s1 + 1) _ (by omega) (by omega) hY2 _ _ hP hS ls (lv_sub hl [1, 2, 3, 0] rfl)
                    · have ht : t < 10 := pw_lt c50 hi2 (by decide)
                      refine lv_iload_n hx hb dX1_put_53 rfl (lv_at hl 3 rfl) ?_
                      refine lv_iload_n hx hb dX1_put_54 rfl (lv_at hl 1 rfl) ?_
                      refine lv_icmp_eq (tgt := 72) hx hb dX1_put_55 (by decide) (fun c55 => ?_) (fun c55 => ?_)
                      · have eL : ((s1 == a) || R s1 a) = true := by rw [(nI_eq (by omega) (by omega)).mp c55]; simp
                        refine lv_iconst (v := 1) hx hb dX1_put_72 (by decide +kernel) ?_
                        refine lv_goto (tgt := 77) hx hb dX1_put_73 (by decide) ?_
                        refine lv_istore (lv' := [(5, .int 1), (0, .ref (h 0)), (1, .int (nI a)), (2, .int (nI b)), (3, .int (nI s1)), (4, .int (nI t))]) hx hb dX1_put_77 hl (by decide) rfl (fun ls hl => ?_)
                        refine lv_iload hx hb dX1_put_79 (lv_at hl 5 rfl) ?_
                        refine lv_iload_n hx hb dX1_put_81 rfl (lv_at hl 3 rfl) ?_
                        refine lv_icmp_eq (tgt := 100) hx hb dX1_put_82 (by decide) (fun c82 => ?_) (fun c82 => ?_)
                        · have eH : ((t == b) || R b t) = true := by rw [(nI_eq (by omega) (by omega)).mp c82]; simp
                          refine lv_iconst (v := 1) hx hb dX1_put_100 (by decide +kernel) ?_
                          refine lv_goto (tgt := 105) hx hb dX1_put_101 (by decide) ?_
                          refine lv_istore (lv' := [(6, .int 1), (5, .int 1), (0, .ref (h 0)), (1, .int (nI a)), (2, .int (nI b)), (3, .int (nI s1)), (4, .int (nI t))]) hx hb dX1_put_105 hl (by decide) rfl (fun ls hl => ?_)
                          refine lv_iload hx hb dX1_put_107 (lv_at hl 1 rfl) ?_
                          refine lv_if_eq (tgt := 130) hx hb dX1_put_109 (by decide) (fun c9 => absurd c9 (by decide)) (fun _ => ?_)
                          refine lv_iload hx hb dX1_put_112 (lv_at hl 0 rfl) ?_
                          refine lv_if_eq (tgt := 130) hx hb dX1_put_114 (by decide) (fun c9 => absurd c9 (by decide)) (fun _ => ?_)
                          refine lv_aload_n hx hb dX1_put_117 rfl (lv_at hl 2 rfl) ?_
                          refine va_get (D := D) (ci := 1) (v := .ref (h 1)) (C := RX1) (T := TX1) (N := 1) hx hb hts in_X1 hown hK hP 0 rfl rfl 0 (by decide) (hts _ q131) (fun _ h9 => h9) rfl dX1_put_118 ?_
                          refine lv_bipush (v := (nI 10)) hx hb dX1_put_121 (by decide +kernel) ?_
                          refine lv_iload_n hx hb dX1_put_123 rfl (lv_at hl 5 rfl) ?_
                          refine lv_imul hx hb dX1_put_124 ?_
                          refine pw_top (y := (nI (10 * s1))) (pk_mul _ _) ?_
                          refine lv_iload hx hb dX1_put_125 (lv_at hl 6 rfl) ?_
                          refine lv_iadd hx hb dX1_put_127 ?_
                          refine pw_top (y := (nI (10 * s1 + t))) (nI_add _ _) ?_
                          refine lv_iconst (v := 1) hx hb dX1_put_128 (by decide +kernel) ?_
                          refine pw_zast hx hb hK hP (pw_X1_D hj pw_AXi) hS 1 0 rfl rfl rfl (by omega) (by decide) dX1_put_129 (fun H locs hP hS => ?_)
                          have hP : va_P D pw_cl (pw_X1 d h (upd kz ((10 * s1 + t)) 1)) H := hP
                          refine lv_iinc (v := (nI (t + 1))) (lv' := [(4, .int (nI (t + 1))), (6, .int 1), (5, .int 1), (0, .ref (h 0)), (1, .int (nI a)), (2, .int (nI b)), (3, .int (nI s1))]) hx hb dX1_put_130 hl (k := 6) rfl (pw_inc _) (by decide) rfl (fun ls hl => ?_)
                          refine lv_goto (tgt := 46) hx hb dX1_put_133 (by decide) ?_
                          exact ih46 (t + 1) _ (by omega) (by omega) (pw_ps_yes hs ht hX (by rw [eL, eH]; rfl)) _ _ hP hS ls (lv_sub hl [3, 4, 5, 6, 0] rfl)
                        · have n82 : (t == b) = false := pw_ne (fun z => c82 (by rw [z]))
                          refine lv_aload_n hx hb dX1_put_85 rfl (lv_at hl 1 rfl) ?_
                          refine va_get (D := D) (ci := 1) (v := .ref (h 1)) (C := RX1) (T := TX1) (N := 1) hx hb hts in_X1 hown hK hP 0 rfl rfl 0 (by decide) (hts _ q131) (fun _ h9 => h9) rfl dX1_put_86 ?_
                          refine lv_bipush (v := (nI 10)) hx hb dX1_put_89 (by decide +kernel) ?_
                          refine lv_iload_n hx hb dX1_put_91 rfl (lv_at hl 3 rfl) ?_
                          refine lv_imul hx hb dX1_put_92 ?_
                          refine pw_top (y := (nI (10 * b))) (pk_mul _ _) ?_
                          refine lv_iload hx hb dX1_put_93 (lv_at hl 5 rfl) ?_
                          refine lv_iadd hx hb dX1_put_95 ?_
                          refine pw_top (y := (nI (10 * b + t))) (nI_add _ _) ?_
                          refine pw_zald hx hb hK hP 1 0 rfl rfl (by omega) (by decide) dX1_put_96 ?_
                          refine pw_top (y := (pw_bI (R b t))) ((hX b t hb9 ht).trans (by rw [pw_ps_high hne hba])) ?_
                          refine lv_if_eq (tgt := 104) hx hb dX1_put_97 (by decide) (fun c97 => ?_) (fun c97 => ?_)
                          · have eH : ((t == b) || R b t) = false := by rw [n82, pw_bI_0.mp c97]; rfl
                            refine lv_iconst (v := 0) hx hb dX1_put_104 (by decide +kernel) ?_
                            refine lv_istore (lv' := [(6, .int 0), (5, .int 1), (0, .ref (h 0)), (1, .int (nI a)), (2, .int (nI b)), (3, .int (nI s1)), (4, .int (nI t))]) hx hb dX1_put_105 hl (by decide) rfl (fun ls hl => ?_)
                            refine lv_iload hx hb dX1_put_107 (lv_at hl 1 rfl) ?_
                            refine lv_if_eq (tgt := 130) hx hb dX1_put_109 (by decide) (fun c9 => absurd c9 (by decide)) (fun _ => ?_)
                            refine lv_iload hx hb dX1_put_112 (lv_at hl 0 rfl) ?_
                            refine lv_if_eq (tgt := 130) hx hb dX1_put_114 (by decide) (fun _ => ?_) (fun c9 => absurd c9 (by decide))
                            refine lv_iinc (v := (nI (t + 1))) (lv' := [(4, .int (nI (t + 1))), (6, .int 0), (5, .int 1), (0, .ref (h 0)), (1, .int (nI a)), (2, .int (nI b)), (3, .int (nI s1))]) hx hb dX1_put_130 hl (k := 6) rfl (pw_inc _) (by decide) rfl (fun ls hl => ?_)
                            refine lv_goto (tgt := 46) hx hb dX1_put_133 (by decide) ?_
                            exact ih46 (t + 1) _ (by omega) (by omega) (pw_ps_no hX (by rw [eL, eH]; rfl)) _ _ hP hS ls (lv_sub hl [3, 4, 5, 6, 0] rfl)
                          · have eH : ((t == b) || R b t) = true := by rw [pw_bI_n.mp c97]; simp
                            refine lv_iconst (v := 1) hx hb dX1_put_100 (by decide +kernel) ?_
                            refine lv_goto (tgt := 105) hx hb dX1_put_101 (by decide) ?_
                            refine lv_istore (lv' := [(6, .int 1), (5, .int 1), (0, .ref (h 0)), (1, .int (nI a)), (2, .int (nI b)), (3, .int (nI s1)), (4, .int (nI t))]) hx hb dX1_put_105 hl (by decide) rfl (fun ls hl => ?_)
                            refine lv_iload hx hb dX1_put_107 (lv_at hl 1 rfl) ?_
                            refine lv_if_eq (tgt := 130) hx hb dX1_put_109 (by decide) (fun c9 => absurd c9 (by decide)) (fun _ => ?_)
                            refine lv_iload hx hb dX1_put_112 (lv_at hl 0 rfl) ?_
                            refine lv_if_eq (tgt := 130) hx hb dX1_put_114 (by decide) (fun c9 => absurd c9 (by decide)) (fun _ => ?_)
                            refine lv_aload_n hx hb dX1_put_117 rfl (lv_at hl 2 rfl) ?_
                            refine va_get (D := D) (ci := 1) (v := .ref (h 1)) (C := RX1) (T := TX1) (N := 1) hx hb hts in_X1 hown hK hP 0 rfl rfl 0 (by decide) (hts _ q131) (fun _ h9 => h9) rfl dX1_put_118 ?_
                            refine lv_bipush (v := (nI 10)) hx hb dX1_put_121 (by decide +kernel) ?_
                            refine lv_iload_n hx hb dX1_put_123 rfl (lv_at hl 5 rfl) ?_
                            refine lv_imul hx hb dX1_put_124 ?_
                            refine pw_top (y := (nI (10 * s1))) (pk_mul _ _) ?_
                            refine lv_iload hx hb dX1_put_125 (lv_at hl 6 rfl) ?_
                            refine lv_iadd hx hb dX1_put_127 ?_
                            refine pw_top (y := (nI (10 * s1 + t))) (nI_add _ _) ?_
                            refine lv_iconst (v := 1) hx hb dX1_put_128 (by decide +kernel) ?_
                            refine pw_zast hx hb hK hP (pw_X1_D hj pw_AXi) hS 1 0 rfl rfl rfl (by omega) (by decide) dX1_put_129 (fun H locs hP hS => ?_)
                            have hP : va_P D pw_cl (pw_X1 d h (upd kz ((10 * s1 + t)) 1)) H := hP
                            refine lv_iinc (v := (nI (t + 1))) (lv' := [(4, .int (nI (t + 1))), (6, .int 1), (5, .int 1), (0, .ref (h 0)), (1, .int (nI a)), (2, .int (nI b)), (3, .int (nI s1))]) hx hb dX1_put_130 hl (k := 6) rfl (pw_inc _) (by decide) rfl (fun ls hl => ?_)
                            refine lv_goto (tgt := 46) hx hb dX1_put_133 (by decide) ?_
                            exact ih46 (t + 1) _ (by omega) (by omega) (pw_ps_yes hs ht hX (by rw [eL, eH]; rfl)) _ _ hP hS ls (lv_sub hl [3, 4, 5, 6, 0] rfl)
                      · have n55 : (s1 == a) = false := pw_ne (fun z => c55 (by rw [z]))
                        refine lv_aload_n hx hb dX1_put_58 rfl (lv_at hl 0 rfl) ?_
                        refine va_get (D := D) (ci := 1) (v := .ref (h 1)) (C := RX1) (T := TX1) (N := 1) hx hb hts in_X1 hown hK hP 0 rfl rfl 0 (by decide) (hts _ q131) (fun _ h9 => h9) rfl dX1_put_59 ?_
                        refine lv_bipush (v := (nI 10)) hx hb dX1_put_62 (by decide +kernel) ?_
                        refine lv_iload_n hx hb dX1_put_64 rfl (lv_at hl 3 rfl) ?_
                        refine lv_imul hx hb dX1_put_65 ?_
                        refine pw_top (y := (nI (10 * s1))) (pk_mul _ _) ?_
                        refine lv_iload_n hx hb dX1_put_66 rfl (lv_at hl 1 rfl) ?_
                        refine lv_iadd hx hb dX1_put_67 ?_
                        refine pw_top (y := (nI (10 * s1 + a))) (nI_add _ _) ?_
                        refine pw_zald hx hb hK hP 1 0 rfl rfl (by omega) (by decide) dX1_put_68 ?_
                        refine pw_top (y := (pw_bI (R s1 a))) ((hX s1 a hs ha).trans (by rw [pw_ps_low hne hba])) ?_
                        refine lv_if_eq (tgt := 76) hx hb dX1_put_69 (by decide) (fun c69 => ?_) (fun c69 => ?_)
                        · have eL : ((s1 == a) || R s1 a) = false := by rw [n55, pw_bI_0.mp c69]; rfl
                          refine lv_iconst (v := 0) hx hb dX1_put_76 (by decide +kernel) ?_
                          refine lv_istore (lv' := [(5, .int 0), (0, .ref (h 0)), (1, .int (nI a)), (2, .int (nI b)), (3, .int (nI s1)), (4, .int (nI t))]) hx hb dX1_put_77 hl (by decide) rfl (fun ls hl => ?_)
                          refine lv_iload hx hb dX1_put_79 (lv_at hl 5 rfl) ?_
                          refine lv_iload_n hx hb dX1_put_81 rfl (lv_at hl 3 rfl) ?_
                          refine lv_icmp_eq (tgt := 100) hx hb dX1_put_82 (by decide) (fun c82 => ?_) (fun c82 => ?_)
                          · have eH : ((t == b) || R b t) = true := by rw [(nI_eq (by omega) (by omega)).mp c82]; simp
                            refine lv_iconst (v := 1) hx hb dX1_put_100 (by decide +kernel) ?_
                            refine lv_goto (tgt := 105) hx hb dX1_put_101 (by decide) ?_
                            refine lv_istore (lv' := [(6, .int 1), (5, .int 0), (0, .ref (h 0)), (1, .int (nI a)), (2, .int (nI b)), (3, .int (nI s1)), (4, .int (nI t))]) hx hb dX1_put_105 hl (by decide) rfl (fun ls hl => ?_)
                            refine lv_iload hx hb dX1_put_107 (lv_at hl 1 rfl) ?_
                            refine lv_if_eq (tgt := 130) hx hb dX1_put_109 (by decide) (fun _ => ?_) (fun c9 => absurd c9 (by decide))
                            refine lv_iinc (v := (nI (t + 1))) (lv' := [(4, .int (nI (t + 1))), (6, .int 1), (5, .int 0), (0, .ref (h 0)), (1, .int (nI a)), (2, .int (nI b)), (3, .int (nI s1))]) hx hb dX1_put_130 hl (k := 6) rfl (pw_inc _) (by decide) rfl (fun ls hl => ?_)
                            refine lv_goto (tgt := 46) hx hb dX1_put_133 (by decide) ?_
                            exact ih46 (t + 1) _ (by omega) (by omega) (pw_ps_no hX (by rw [eL, eH]; rfl)) _ _ hP hS ls (lv_sub hl [3, 4, 5, 6, 0] rfl)
                          · have n82 : (t == b) = false := pw_ne (fun z => c82 (by rw [z]))
                            refine lv_aload_n hx hb dX1_put_85 rfl (lv_at hl 1 rfl) ?_
                            refine va_get (D := D) (ci := 1) (v := .ref (h 1)) (C := RX1) (T := TX1) (N := 1) hx hb hts in_X1 hown hK hP 0 rfl rfl 0 (by decide) (hts _ q131) (fun _ h9 => h9) rfl dX1_put_86 ?_
                            refine lv_bipush (v := (nI 10)) hx hb dX1_put_89 (by decide +kernel) ?_
                            refine lv_iload_n hx hb dX1_put_91 rfl (lv_at hl 3 rfl) ?_
                            refine lv_imul hx hb dX1_put_92 ?_
                            refine pw_top (y := (nI (10 * b))) (pk_mul _ _) ?_
                            refine lv_iload hx hb dX1_put_93 (lv_at hl 5 rfl) ?_
                            refine lv_iadd hx hb dX1_put_95 ?_
                            refine pw_top (y := (nI (10 * b + t))) (nI_add _ _) ?_
                            refine pw_zald hx hb hK hP 1 0 rfl rfl (by omega) (by decide) dX1_put_96 ?_
                            refine pw_top (y := (pw_bI (R b t))) ((hX b t hb9 ht).trans (by rw [pw_ps_high hne hba])) ?_
                            refine lv_if_eq (tgt := 104) hx hb dX1_put_97 (by decide) (fun c97 => ?_) (fun c97 => ?_)
                            · have eH : ((t == b) || R b t) = false := by rw [n82, pw_bI_0.mp c97]; rfl
                              refine lv_iconst (v := 0) hx hb dX1_put_104 (by decide +kernel) ?_
                              refine lv_istore (lv' := [(6, .int 0), (5, .int 0), (0, .ref (h 0)), (1, .int (nI a)), (2, .int (nI b)), (3, .int (nI s1)), (4, .int (nI t))]) hx hb dX1_put_105 hl (by decide) rfl (fun ls hl => ?_)
                              refine lv_iload hx hb dX1_put_107 (lv_at hl 1 rfl) ?_
                              refine lv_if_eq (tgt := 130) hx hb dX1_put_109 (by decide) (fun _ => ?_) (fun c9 => absurd c9 (by decide))
                              refine lv_iinc (v := (nI (t + 1))) (lv' := [(4, .int (nI (t + 1))), (6, .int 0), (5, .int 0), (0, .ref (h 0)), (1, .int (nI a)), (2, .int (nI b)), (3, .int (nI s1))]) hx hb dX1_put_130 hl (k := 6) rfl (pw_inc _) (by decide) rfl (fun ls hl => ?_)
                              refine lv_goto (tgt := 46) hx hb dX1_put_133 (by decide) ?_
                              exact ih46 (t + 1) _ (by omega) (by omega) (pw_ps_no hX (by rw [eL, eH]; rfl)) _ _ hP hS ls (lv_sub hl [3, 4, 5, 6, 0] rfl)
                            · have eH : ((t == b) || R b t) = true := by rw [pw_bI_n.mp c97]; simp
                              refine lv_iconst (v := 1) hx hb dX1_put_100 (by decide +kernel) ?_
                              refine lv_goto (tgt := 105) hx hb dX1_put_101 (by decide) ?_
                              refine lv_istore (lv' := [(6, .int 1), (5, .int 0), (0, .ref (h 0)), (1, .int (nI a)), (2, .int (nI b)), (3, .int (nI s1)), (4, .int (nI t))]) hx hb dX1_put_105 hl (by decide) rfl (fun ls hl => ?_)
                              refine lv_iload hx hb dX1_put_107 (lv_at hl 1 rfl) ?_
                              refine lv_if_eq (tgt := 130) hx hb dX1_put_109 (by decide) (fun _ => ?_) (fun c9 => absurd c9 (by decide))
                              refine lv_iinc (v := (nI (t + 1))) (lv' := [(4, .int (nI (t + 1))), (6, .int 1), (5, .int 0), (0, .ref (h 0)), (1, .int (nI a)), (2, .int (nI b)), (3, .int (nI s1))]) hx hb dX1_put_130 hl (k := 6) rfl (pw_inc _) (by decide) rfl (fun ls hl => ?_)
                              refine lv_goto (tgt := 46) hx hb dX1_put_133 (by decide) ?_
                              exact ih46 (t + 1) _ (by omega) (by omega) (pw_ps_no hX (by rw [eL, eH]; rfl)) _ _ hP hS ls (lv_sub hl [3, 4, 5, 6, 0] rfl)
                        · have eL : ((s1 == a) || R s1 a) = true := by rw [pw_bI_n.mp c69]; simp
                          refine lv_iconst (v := 1) hx hb dX1_put_72 (by decide +kernel) ?_
                          refine lv_goto (tgt := 77) hx hb dX1_put_73 (by decide) ?_
                          refine lv_istore (lv' := [(5, .int 1), (0, .ref (h 0)), (1, .int (nI a)), (2, .int (nI b)), (3, .int (nI s1)), (4, .int (nI t))]) hx hb dX1_put_77 hl (by decide) rfl (fun ls hl => ?_)
                          refine lv_iload hx hb dX1_put_79 (lv_at hl 5 rfl) ?_
                          refine lv_iload_n hx hb dX1_put_81 rfl (lv_at hl 3 rfl) ?_
                          refine lv_icmp_eq (tgt := 100) hx hb dX1_put_82 (by decide) (fun c82 => ?_) (fun c82 => ?_)
                          · have eH : ((t == b) || R b t) = true := by rw [(nI_eq (by omega) (by omega)).mp c82]; simp
                            refine lv_iconst (v := 1) hx hb dX1_put_100 (by decide +kernel) ?_
                            refine lv_goto (tgt := 105) hx hb dX1_put_101 (by decide) ?_
                            refine lv_istore (lv' := [(6, .int 1), (5, .int 1), (0, .ref (h 0)), (1, .int (nI a)), (2, .int (nI b)), (3, .int (nI s1)), (4, .int (nI t))]) hx hb dX1_put_105 hl (by decide) rfl (fun ls hl => ?_)
                            refine lv_iload hx hb dX1_put_107 (lv_at hl 1 rfl) ?_
                            refine lv_if_eq (tgt := 130) hx hb dX1_put_109 (by decide) (fun c9 => absurd c9 (by decide)) (fun _ => ?_)
                            refine lv_iload hx hb dX1_put_112 (lv_at hl 0 rfl) ?_
                            refine lv_if_eq (tgt := 130) hx hb dX1_put_114 (by decide) (fun c9 => absurd c9 (by decide)) (fun _ => ?_)
                            refine lv_aload_n hx hb dX1_put_117 rfl (lv_at hl 2 rfl) ?_
                            refine va_get (D := D) (ci := 1) (v := .ref (h 1)) (C := RX1) (T := TX1) (N := 1) hx hb hts in_X1 hown hK hP 0 rfl rfl 0 (by decide) (hts _ q131) (fun _ h9 => h9) rfl dX1_put_118 ?_
                            refine lv_bipush (v := (nI 10)) hx hb dX1_put_121 (by decide +kernel) ?_
                            refine lv_iload_n hx hb dX1_put_123 rfl (lv_at hl 5 rfl) ?_
                            refine lv_imul hx hb dX1_put_124 ?_
                            refine pw_top (y := (nI (10 * s1))) (pk_mul _ _) ?_
                            refine lv_iload hx hb dX1_put_125 (lv_at hl 6 rfl) ?_
                            refine lv_iadd hx hb dX1_put_127 ?_
                            refine pw_top (y := (nI (10 * s1 + t))) (nI_add _ _) ?_
                            refine lv_iconst (v := 1) hx hb dX1_put_128 (by decide +kernel) ?_
                            refine pw_zast hx hb hK hP (pw_X1_D hj pw_AXi) hS 1 0 rfl rfl rfl (by omega) (by decide) dX1_put_129 (fun H locs hP hS => ?_)
                            have hP : va_P D pw_cl (pw_X1 d h (upd kz ((10 * s1 + t)) 1)) H := hP
                            refine lv_iinc (v := (nI (t + 1))) (lv' := [(4, .int (nI (t + 1))), (6, .int 1), (5, .int 1), (0, .ref (h 0)), (1, .int (nI a)), (2, .int (nI b)), (3, .int (nI s1))]) hx hb dX1_put_130 hl (k := 6) rfl (pw_inc _) (by decide) rfl (fun ls hl => ?_)
                            refine lv_goto (tgt := 46) hx hb dX1_put_133 (by decide) ?_
                            exact ih46 (t + 1) _ (by omega) (by omega) (pw_ps_yes hs ht hX (by rw [eL, eH]; rfl)) _ _ hP hS ls (lv_sub hl [3, 4, 5, 6, 0] rfl)
                          · have n82 : (t == b) = false := pw_ne (fun z => c82 (by rw [z]))
                            refine lv_aload_n hx hb dX1_put_85 rfl (lv_at hl 1 rfl) ?_
                            refine va_get (D := D) (ci := 1) (v := .ref (h 1)) (C := RX1) (T := TX1) (N := 1) hx hb hts in_X1 hown hK hP 0 rfl rfl 0 (by decide) (hts _ q131) (fun _ h9 => h9) rfl dX1_put_86 ?_
                            refine lv_bipush (v := (nI 10)) hx hb dX1_put_89 (by decide +kernel) ?_
                            refine lv_iload_n hx hb dX1_put_91 rfl (lv_at hl 3 rfl) ?_
                            refine lv_imul hx hb dX1_put_92 ?_
                            refine pw_top (y := (nI (10 * b))) (pk_mul _ _) ?_
                            refine lv_iload hx hb dX1_put_93 (lv_at hl 5 rfl) ?_
                            refine lv_iadd hx hb dX1_put_95 ?_
                            refine pw_top (y := (nI (10 * b + t))) (nI_add _ _) ?_
                            refine pw_zald hx hb hK hP 1 0 rfl rfl (by omega) (by decide) dX1_put_96 ?_
                            refine pw_top (y := (pw_bI (R b t))) ((hX b t hb9 ht).trans (by rw [pw_ps_high hne hba])) ?_
                            refine lv_if_eq (tgt := 104) hx hb dX1_put_97 (by decide) (fun c97 => ?_) (fun c97 => ?_)
                            · have eH : ((t == b) || R b t) = false := by rw [n82, pw_bI_0.mp c97]; rfl
                              refine lv_iconst (v := 0) hx hb dX1_put_104 (by decide +kernel) ?_
                              refine lv_istore (lv' := [(6, .int 0), (5, .int 1), (0, .ref (h 0)), (1, .int (nI a)), (2, .int (nI b)), (3, .int (nI s1)), (4, .int (nI t))]) hx hb dX1_put_105 hl (by decide) rfl (fun ls hl => ?_)
                              refine lv_iload hx hb dX1_put_107 (lv_at hl 1 rfl) ?_
                              refine lv_if_eq (tgt := 130) hx hb dX1_put_109 (by decide) (fun c9 => absurd c9 (by decide)) (fun _ => ?_)
                              refine lv_iload hx hb dX1_put_112 (lv_at hl 0 rfl) ?_
                              refine lv_if_eq (tgt := 130) hx hb dX1_put_114 (by decide) (fun _ => ?_) (fun c9 => absurd c9 (by decide))
                              refine lv_iinc (v := (nI (t + 1))) (lv' := [(4, .int (nI (t + 1))), (6, .int 0), (5, .int 1), (0, .ref (h 0)), (1, .int (nI a)), (2, .int (nI b)), (3, .int (nI s1))]) hx hb dX1_put_130 hl (k := 6) rfl (pw_inc _) (by decide) rfl (fun ls hl => ?_)
                              refine lv_goto (tgt := 46) hx hb dX1_put_133 (by decide) ?_
                              exact ih46 (t + 1) _ (by omega) (by omega) (pw_ps_no hX (by rw [eL, eH]; rfl)) _ _ hP hS ls (lv_sub hl [3, 4, 5, 6, 0] rfl)
                            · have eH : ((t == b) || R b t) = true := by rw [pw_bI_n.mp c97]; simp
                              refine lv_iconst (v := 1) hx hb dX1_put_100 (by decide +kernel) ?_
                              refine lv_goto (tgt := 105) hx hb dX1_put_101 (by decide) ?_
                              refine lv_istore (lv' := [(6, .int 1), (5, .int 1), (0, .ref (h 0)), (1, .int (nI a)), (2, .int (nI b)), (3, .int (nI s1)), (4, .int (nI t))]) hx hb dX1_put_105 hl (by decide) rfl (fun ls hl => ?_)
                              refine lv_iload hx hb dX1_put_107 (lv_at hl 1 rfl) ?_
                              refine lv_if_eq (tgt := 130) hx hb dX1_put_109 (by decide) (fun c9 => absurd c9 (by decide)) (fun _ => ?_)
                              refine lv_iload hx hb dX1_put_112 (lv_at hl 0 rfl) ?_
                              refine lv_if_eq (tgt := 130) hx hb dX1_put_114 (by decide) (fun c9 => absurd c9 (by decide)) (fun _ => ?_)
                              refine lv_aload_n hx hb dX1_put_117 rfl (lv_at hl 2 rfl) ?_
                              refine va_get (D := D) (ci := 1) (v := .ref (h 1)) (C := RX1) (T := TX1) (N := 1) hx hb hts in_X1 hown hK hP 0 rfl rfl 0 (by decide) (hts _ q131) (fun _ h9 => h9) rfl dX1_put_118 ?_
                              refine lv_bipush (v := (nI 10)) hx hb dX1_put_121 (by decide +kernel) ?_
                              refine lv_iload_n hx hb dX1_put_123 rfl (lv_at hl 5 rfl) ?_
                              refine lv_imul hx hb dX1_put_124 ?_
                              refine pw_top (y := (nI (10 * s1))) (pk_mul _ _) ?_
                              refine lv_iload hx hb dX1_put_125 (lv_at hl 6 rfl) ?_
                              refine lv_iadd hx hb dX1_put_127 ?_
                              refine pw_top (y := (nI (10 * s1 + t))) (nI_add _ _) ?_
                              refine lv_iconst (v := 1) hx hb dX1_put_128 (by decide +kernel) ?_
                              refine pw_zast hx hb hK hP (pw_X1_D hj pw_AXi) hS 1 0 rfl rfl rfl (by omega) (by decide) dX1_put_129 (fun H locs hP hS => ?_)
                              have hP : va_P D pw_cl (pw_X1 d h (upd kz ((10 * s1 + t)) 1)) H := hP
                              refine lv_iinc (v := (nI (t + 1))) (lv' := [(4, .int (nI (t + 1))), (6, .int 1), (5, .int 1), (0, .ref (h 0)), (1, .int (nI a)), (2, .int (nI b)), (3, .int (nI s1))]) hx hb dX1_put_130 hl (k := 6) rfl (pw_inc _) (by decide) rfl (fun ls hl => ?_)
                              refine lv_goto (tgt := 46) hx hb dX1_put_133 (by decide) ?_
                              exact ih46 (t + 1) _ (by omega) (by omega) (pw_ps_yes hs ht hX (by rw [eL, eH]; rfl)) _ _ hP hS ls (lv_sub hl [3, 4, 5, 6, 0] rfl)
                exact LOOP46 11 0 _ (by omega) (by omega) hY _ _ hP hS ls (lv_sub hl [1, 2, 3, 4, 0] rfl)
          exact LOOP37 11 0 fz (by omega) (by omega) (pw_ps_0 hZ) _ _ hP hS ls (lv_sub hl [1, 2, 3, 0] rfl)
        · have hno : ∀ a2 b2, a2 < 10 → b2 < 10 → nI a = nI a2 → nI b = nI b2 → a2 = b2 ∨ R b2 a2 = true := fun a2 b2 h1 h2 h3 h4 => Or.inr (by rw [← (nI_eq (by omega) (by omega)).mp h3, ← (nI_eq (by omega) (by omega)).mp h4]; exact pw_bI_n.mp c30)
          refine lv_iconst (v := (-1)) hx hb dX1_put_33 (by decide +kernel) ?_
          exact pw_ret1 hx hb hr hlocks hP hS rfl (Or.inl ⟨rfl, rfl, hno⟩) dX1_put_34
end
section
/-! ===== PosetWidth: the methods that change its cells ===== -/
def pw_lo (R : Nat → Nat → Bool) (a : Nat) : Nat → Bool := fun i => R i a || (i == a)
def pw_hi (R : Nat → Nat → Bool) (b : Nat) : Nat → Bool := fun i => R b i || (i == b)
def pw_pa (R : Nat → Nat → Bool) (a b t i : Nat) : Nat → Bool := fun y => R i y || (decide (i < t) && (pw_lo R a i && pw_hi R b y))
def pw_pb (R : Nat → Nat → Bool) (a b t i : Nat) : Nat → Bool := fun x => R x i || (decide (i < t) && (pw_lo R a x && pw_hi R b i))
theorem pw_pa_t {R : Nat → Nat → Bool} {a b t : Nat} : pw_ms (pw_pa R a b t t) = pw_ms (R t) := pw_ms_ext (fun i _ => by simp [pw_pa])
theorem pw_pb_t {R : Nat → Nat → Bool} {a b t : Nat} : pw_ms (pw_pb R a b t t) = pw_ms (fun u => R u t) := pw_ms_ext (fun i _ => by simp [pw_pb])
theorem pw_pa_no {R : Nat → Nat → Bool} {a b t : Nat} {g : Nat → Int32} (h : ∀ i, i < 10 → g i = pw_ms (pw_pa R a b t i)) (hl : pw_lo R a t = false) : ∀ i, i < 10 → g i = pw_ms (pw_pa R a b (t + 1) i) := by
  intro i hi
  rw [h i hi]
  refine pw_ms_ext (fun y _ => ?_)
  by_cases e : i = t
  · subst e; simp [pw_pa, hl]
  · have l : (i < t + 1) ↔ (i < t) := by omega
    simp [pw_pa, l]
theorem pw_pa_yes {R : Nat → Nat → Bool} {a b t : Nat} {g : Nat → Int32} (h : ∀ i, i < 10 → g i = pw_ms (pw_pa R a b t i)) (hl : pw_lo R a t = true) : ∀ i, i < 10 → (upd g t (pw_ms (fun i => R t i || pw_hi R b i))) i = pw_ms (pw_pa R a b (t + 1) i) := by
  intro i hi
  by_cases e : i = t
  · subst e
    rw [pk_us]
    exact pw_ms_ext (fun y _ => by simp [pw_pa, hl])
  · rw [pk_un e, h i hi]
    have l : (i < t + 1) ↔ (i < t) := by omega
    exact pw_ms_ext (fun y _ => by simp [pw_pa, l])
theorem pw_pb_no {R : Nat → Nat → Bool} {a b t : Nat} {g : Nat → Int32} (h : ∀ i, i < 10 → g i = pw_ms (pw_pb R a b t i)) (hl : pw_hi R b t = false) : ∀ i, i < 10 → g i = pw_ms (pw_pb R a b (t + 1) i) := by
  intro i hi
  rw [h i hi]
  refine pw_ms_ext (fun y _ => ?_)
  by_cases e : i = t
  · subst e; simp [pw_pb, hl]
  · have l : (i < t + 1) ↔ (i < t) := by omega
    simp [pw_pb, l]
theorem pw_pb_yes {R : Nat → Nat → Bool} {a b t : Nat} {g : Nat → Int32} (h : ∀ i, i < 10 → g i = pw_ms (pw_pb R a b t i)) (hl : pw_hi R b t = true) : ∀ i, i < 10 → (upd g t (pw_ms (fun u => R u t || pw_lo R a u))) i = pw_ms (pw_pb R a b (t + 1) i) := by
  intro i hi
  by_cases e : i = t
  · subst e
    rw [pk_us]
    exact pw_ms_ext (fun y _ => by simp [pw_pb, hl])
  · rw [pk_un e, h i hi]
    have l : (i < t + 1) ↔ (i < t) := by omega
    exact pw_ms_ext (fun y _ => by simp [pw_pb, l])
theorem pw_pab_e {R : Nat → Nat → Bool} {a b : Nat} {ga gb : Nat → Int32} (hA : ∀ i, i < 10 → ga i = pw_ms (pw_pa R a b 10 i)) (hB : ∀ i, i < 10 → gb i = pw_ms (pw_pb R a b 10 i)) : pw_Rep (pw_put R a b) ga gb := by
  refine ⟨fun t ht => ?_, fun t ht => ?_⟩
  · rw [hA t ht]
    exact pw_ms_ext (fun y _ => by simp [pw_pa, pw_put, ht, pw_lo, pw_hi, Bool.or_comm])
  · rw [hB t ht]
    exact pw_ms_ext (fun y _ => by simp [pw_pb, pw_put, ht, pw_lo, pw_hi, Bool.or_comm])
theorem pw_pab_0 {R : Nat → Nat → Bool} {a b : Nat} {ga gb : Nat → Int32} (h : pw_Rep R ga gb) : (∀ i, i < 10 → ga i = pw_ms (pw_pa R a b 0 i)) ∧ ∀ i, i < 10 → gb i = pw_ms (pw_pb R a b 0 i) := by
  refine ⟨fun t ht => ?_, fun t ht => ?_⟩
  · rw [h.1 t ht]
    exact pw_ms_ext (fun y _ => by simp [pw_pa])
  · rw [h.2 t ht]
    exact pw_ms_ext (fun y _ => by simp [pw_pb])
def pw_ra (R : Nat → Nat → Bool) (v t i : Nat) : Nat → Bool := fun y => R i y && !(decide (i < t) && (y == v))
def pw_rb (R : Nat → Nat → Bool) (v t i : Nat) : Nat → Bool := fun x => R x i && !(decide (i < t) && (x == v))
theorem pw_ra_t {R : Nat → Nat → Bool} {v t : Nat} : pw_ms (pw_ra R v t t) = pw_ms (R t) := pw_ms_ext (fun i _ => by simp [pw_ra])
theorem pw_rb_t {R : Nat → Nat → Bool} {v t : Nat} : pw_ms (pw_rb R v t t) = pw_ms (fun u => R u t) := pw_ms_ext (fun i _ => by simp [pw_rb])
theorem pw_ra_s {R : Nat → Nat → Bool} {v t : Nat} {g : Nat → Int32} (h : ∀ i, i < 10 → g i = pw_ms (pw_ra R v t i)) : ∀ i, i < 10 → (upd g t (pw_ms (fun i => R t i && !(i == v)))) i = pw_ms (pw_ra R v (t + 1) i) := by
  intro i hi
  by_cases e : i = t
  · subst e
    rw [pk_us]
    exact pw_ms_ext (fun y _ => by simp [pw_ra])
  · rw [pk_un e, h i hi]
    have l : (i < t + 1) ↔ (i < t) := by omega
    exact pw_ms_ext (fun y _ => by simp [pw_ra, l])
theorem pw_rb_s {R : Nat → Nat → Bool} {v t : Nat} {g : Nat → Int32} (h : ∀ i, i < 10 → g i = pw_ms (pw_rb R v t i)) : ∀ i, i < 10 → (upd g t (pw_ms (fun u => R u t && !(u == v)))) i = pw_ms (pw_rb R v (t + 1) i) := by
  intro i hi
  by_cases e : i = t
  · subst e
    rw [pk_us]
    exact pw_ms_ext (fun y _ => by simp [pw_rb])
  · rw [pk_un e, h i hi]
    have l : (i < t + 1) ↔ (i < t) := by omega
    exact pw_ms_ext (fun y _ => by simp [pw_rb, l])
theorem pw_rab_e {R : Nat → Nat → Bool} {v : Nat} {ga gb : Nat → Int32} (hA : ∀ i, i < 10 → ga i = pw_ms (pw_ra R v 10 i)) (hB : ∀ i, i < 10 → gb i = pw_ms (pw_rb R v 10 i)) : pw_Rep (pw_rel R v) (upd ga v 0) (upd gb v 0) := by
  refine ⟨fun t ht => ?_, fun t ht => ?_⟩
  · by_cases e : t = v
    · subst e
      rw [pk_us, pw_ms_0]
      exact pw_ms_ext (fun y _ => by simp [pw_rel])
    · rw [pk_un e, hA t ht]
      exact pw_ms_ext (fun y _ => by simp [pw_ra, pw_rel, ht, pw_ne e])
  · by_cases e : t = v
    · subst e
      rw [pk_us, pw_ms_0]
      exact pw_ms_ext (fun y _ => by simp [pw_rel])
    · rw [pk_un e, hB t ht]
      exact pw_ms_ext (fun y _ => by simp [pw_rb, pw_rel, ht, pw_ne e])
theorem pw_rab_0 {R : Nat → Nat → Bool} {v : Nat} {ga gb : Nat → Int32} (h : pw_Rep R ga gb) : (∀ i, i < 10 → ga i = pw_ms (pw_ra R v 0 i)) ∧ ∀ i, i < 10 → gb i = pw_ms (pw_rb R v 0 i) := by
  refine ⟨fun t ht => ?_, fun t ht => ?_⟩
  · rw [h.1 t ht]
    exact pw_ms_ext (fun y _ => by simp [pw_ra])
  · rw [h.2 t ht]
    exact pw_ms_ext (fun y _ => by simp [pw_rb])
theorem pw_TI.none0 {S : Nat → Bool} {R : Nat → Nat → Bool} {L K : Nat → Prop} {root : Nat} {rf : Nat → Option Nat} {qu : Nat → Nat} {nx0 : Nat → Option Nat} {jb : Nat} {v : Option Nat} {nx pv : Nat → Option Nat} (h : pw_TI S R L K root rf qu nx0 jb v nx pv) (hj : jb = 0) : v = none := by
  cases v with
  | none => rfl
  | some v =>
    obtain ⟨-, -, -, -, ⟨j, h1, -⟩, -⟩ := h
    omega
theorem pw_BI.rlt {S : Nat → Bool} {R : Nat → Nat → Bool} {nx pv : Nat → Option Nat} {root : Nat} {rf : Nat → Option Nat} {qu : Nat → Nat} {qe v u : Nat} (h : pw_BI S R nx pv root rf qu qe) (hv : v < 10) (hu : rf v = some u) : u < 10 := by
  obtain ⟨-, h2, -, -, h5⟩ := h
  obtain ⟨-, -, j, i, h6, h7, h8, -⟩ := h5 v u hv hu
  rw [← h8]; exact (h2 j (by omega)).1
theorem pw_Eq_up {g : Nat → Int32} {qu : Nat → Nat} {qe w : Nat} (h : ∀ i, i < qe → g i = nI (qu i)) : ∀ i, i < qe + 1 → (upd g qe (nI w)) i = nI (pw_up qu qe w i) := by
  intro i hi
  by_cases e : i = qe
  · subst e; rw [pk_us, pw_up_s]
  · rw [pk_un e, pw_up_n _ _ e]; exact h i (by omega)
/-- what spreading from one thing answers, and leaves in reachedFrom, queue, queueEnd -/
def pw_Psp (S : Nat → Bool) (R : Nat → Nat → Bool) (nx pv : Nat → Option Nat) (root k th : Nat) (rf : Nat → Option Nat) (qu : Nat → Nat) (qe : Nat) (r : Int32) (ur uq : Nat → Int32) (ue : Int32) : Prop :=
  (∃ rf2 qu2 qe2, r = -1 ∧ pw_En ur rf2 ∧ (∀ i, i < qe2 → uq i = nI (qu2 i)) ∧ ue = nI qe2 ∧ pw_SP S R nx pv root k th rf qu qe 10 rf2 qu2 qe2) ∨
  ∃ rf2 qu2 qe2 t tt, t < 10 ∧ r = nI t ∧ rf2 t = none ∧ pw_En ur (pw_up rf2 t (some th)) ∧ pw_SP S R nx pv root k th rf qu qe tt rf2 qu2 qe2 ∧ S t = true ∧ R th t = true ∧ pv t = none
theorem pw_Psp.neg {S : Nat → Bool} {R : Nat → Nat → Bool} {nx pv : Nat → Option Nat} {root k th : Nat} {rf : Nat → Option Nat} {qu : Nat → Nat} {qe : Nat} {r : Int32} {ur uq : Nat → Int32} {ue : Int32} (h : pw_Psp S R nx pv root k th rf qu qe r ur uq ue) (hr : r < 0) : ∃ rf2 qu2 qe2, pw_En ur rf2 ∧ (∀ i, i < qe2 → uq i = nI (qu2 i)) ∧ ue = nI qe2 ∧ pw_SP S R nx pv root k th rf qu qe 10 rf2 qu2 qe2 := by
  rcases h with ⟨a, b, c, -, h⟩ | ⟨a, b, c, t, tt, h1, h2, -⟩
  · exact ⟨a, b, c, h⟩
  · rw [h2] at hr; exact absurd hr (nI_pos (by omega))
theorem pw_Psp.pos {S : Nat → Bool} {R : Nat → Nat → Bool} {nx pv : Nat → Option Nat} {root k th : Nat} {rf : Nat → Option Nat} {qu : Nat → Nat} {qe : Nat} {r : Int32} {ur uq : Nat → Int32} {ue : Int32} (h : pw_Psp S R nx pv root k th rf qu qe r ur uq ue) (hr : ¬ r < 0) : ∃ rf2 qu2 qe2 t tt, t < 10 ∧ r = nI t ∧ rf2 t = none ∧ pw_En ur (pw_up rf2 t (some th)) ∧ pw_SP S R nx pv root k th rf qu qe tt rf2 qu2 qe2 ∧ S t = true ∧ R th t = true ∧ pv t = none := by
  rcases h with ⟨a, b, c, h, -⟩ | h
  · rw [h] at hr; exact absurd (by decide) hr
  · exact h
theorem pw_SP.way {S : Nat → Bool} {R : Nat → Nat → Bool} {nx pv : Nat → Option Nat} {root k th : Nat} {rf0 : Nat → Option Nat} {qu0 : Nat → Nat} {qe0 tt t : Nat} {rf : Nat → Option Nat} {qu : Nat → Nat} {qe : Nat} {L K : Nat → Prop} (h : pw_SP S R nx pv root k th rf0 qu0 qe0 tt rf qu qe) (hM : pw_MI S R nx pv) (hF : pw_FI S R pv L K) (ht : t < 10) (hrt : rf t = none) (hSt : S t = true) (hR : R th t = true) (hw : pv t = none) : pw_Way S R nx root (pw_up rf t (some th)) qu qe ∧ pw_TI S R L K root (pw_up rf t (some th)) qu nx qe (some t) nx pv := by
  obtain ⟨h1, ⟨h2, h2b, h2c⟩, h3, -, -⟩ := h
  have e : qu k = th := (h3 k h2).trans h2b
  have := h1.way hM hF (k := k) (by omega) ht hrt hSt (by rw [e]; exact hR) hw
  rw [e] at this
  exact this
theorem pw_SP.all {S : Nat → Bool} {R : Nat → Nat → Bool} {nx pv : Nat → Option Nat} {root k th : Nat} {rf0 : Nat → Option Nat} {qu0 : Nat → Nat} {qe0 : Nat} {rf : Nat → Option Nat} {qu : Nat → Nat} {qe : Nat} (h : pw_SP S R nx pv root k th rf0 qu0 qe0 10 rf qu qe) (hall : ∀ i, i < k → ∀ v, v < 10 → S v = true → R (qu0 i) v = true → rf0 v ≠ none) : ∀ i, i < k + 1 → ∀ v, v < 10 → S v = true → R (qu i) v = true → rf v ≠ none := by
  obtain ⟨h1, ⟨h2, h2b, h2c⟩, h3, h4, h5⟩ := h
  intro i hi v hv hS hR
  rw [h3 i (by omega)] at hR
  by_cases e : i = k
  · rw [e, h2b] at hR
    exact h5 v hv hv hS hR
  · exact h4 v hv (hall i (by omega) v hv hS hR)
theorem pw_m1 {g : Nat → Int32} {i : Nat} (h : ∀ j, j < i → g j = -1) : ∀ j, j < i + 1 → (upd g i (-1)) j = -1 := by
  intro j hj
  by_cases e : j = i
  · subst e; rw [pk_us]
  · rw [pk_un e]; exact h j (by omega)
def pw_Pj (j : Nat) (x r : Int32) : Prop := (pw_th x = false ∧ r = -1) ∨ ∃ t, t < 10 ∧ x = nI t ∧ r = pw_bI (pw_tb j t)
def pw_K2 (fa fb : Nat → Int32) (u : pw_St) : Prop := u.1 = fa ∧ u.2.1 = fb
def pw_dn (n : Nat) : Int32 := match n with
  | 0 => -1
  | n + 1 => nI n
theorem pw_dn_s (q : Nat) : pw_dn (q + 1) + Int32.ofInt (-1) = pw_dn q := by
  cases q with
  | zero => decide
  | succ q => exact pk_m1 q
theorem pw_dn_lt {c t : Nat} (hc : c ≤ 10) (ht : t < 10) : pw_dn c < nI t ↔ c ≤ t := by
  cases c with
  | zero =>
    refine ⟨fun _ => Nat.zero_le _, fun _ => ?_⟩
    show (-1 : Int32) < nI t
    rw [Int32.lt_iff_toInt_lt, nI_toInt (by omega)]
    have : (-1 : Int32).toInt = -1 := by decide
    omega
  | succ c =>
    show nI c < nI t ↔ c + 1 ≤ t
    rw [nI_ltI (by omega) (by omega)]
    omega
theorem pw_decd {d : Nat} (h : 1 ≤ d) : nI d + Int32.ofInt (-1) = nI (d - 1) := by
  obtain ⟨e, rfl⟩ : ∃ e, d = e + 1 := ⟨d - 1, by omega⟩
  exact pk_m1 e
theorem pw_c9 {j t q : Nat} (h : t < q + 1) (hb : pw_tb j q = false) : t < q ∨ pw_tb j t = false := by
  by_cases e : t = q
  · right; rw [e]; exact hb
  · left; omega
theorem pw_ok_step (R : Nat → Nat → Bool) (ch : Bool) : ∀ n, ∃ o, pw_GB R (fun _ => false) (fun _ => false) ch n o
  | 0 => ⟨none, pw_GB.start _ _ _ _⟩
  | n + 1 => by
    obtain ⟨o, h⟩ := pw_ok_step R ch n
    rcases Classical.em (pw_ok R (fun _ => false) (fun _ => false) ch n) with q | q
    · cases o with
      | none => exact ⟨_, pw_GB.first h q⟩
      | some j =>
        rcases Nat.lt_or_ge (pw_cn (pw_tb j) 10) (pw_cn (pw_tb n) 10) with c | c
        · exact ⟨_, pw_GB.more h q c⟩
        · exact ⟨_, pw_GB.less h c⟩
    · exact ⟨o, h.no q⟩
theorem pw_Best.ex (R : Nat → Nat → Bool) : ∃ j, pw_Best R (fun _ => false) (fun _ => false) false 1024 j := by
  obtain ⟨o, h⟩ := pw_ok_step R false 1024
  obtain ⟨j, -, hb⟩ := pw_best_any h
  exact ⟨j, hb⟩
theorem pw_Best.one {R : Nat → Nat → Bool} {I O : Nat → Bool} {ch : Bool} {n i j : Nat} (h1 : pw_Best R I O ch n i) (h2 : pw_Best R I O ch n j) : i = j := by
  obtain ⟨a1, a2, a3⟩ := h1
  obtain ⟨b1, b2, b3⟩ := h2
  have c1 := a3 j b1 b2
  have c2 := b3 i a1 a2
  have e : pw_cn (pw_tb j) 10 = pw_cn (pw_tb i) 10 := Nat.le_antisymm c1.1 c2.1
  exact Nat.le_antisymm (c1.2 e) (c2.2 e.symm)
set_option maxHeartbeats 4000000 in
set_option maxRecDepth 100000 in
/-- put(x, y) -/
theorem metX0_put (l : Launch) (D : va_G) (d : ClassId) (h : Nat → Nat) (hj : ∀ i j, i < 7 → j < 7 → h i = h j → i = j) (R : Nat → Nat → Bool) (fa fb fn fp fr fq : Nat → Int32) (fe : Int32) (x y : Int32) (hR : pw_Rep R fa fb) : pw_MU l yX0_put cX0_put 6 (some .int) ({ frames := 2, cells := 0, slots := 0, locals := 44 }) D d h fa fb fn fp fr fq fe [.ref (h 0), .int x, .int y] (fun r u => pw_Pp R x y r (pw_K2 fa fb u) (fun R2 => pw_Rep R2 u.1 u.2.1)) := by
  refine Met.ofW (cc := cX0_put) (maxL := 6) (ret := (some .int)) (by decide) rfl ?_
  intro p e s m args below meth c s₁ B hml hv
  obtain ⟨rfl, hP, hK⟩ := hv
  have hx := B.exec
  have hb := B.bytes
  have hr := B.returns
  have hts := atoms_spec (ws := ws_ yX0_put cX0_put 6 (some .int)) B.pre
  have hts : ∀ w ∈ lw_all, w.before _ s = true := fun w h => hts w (List.mem_cons_of_mem _ h)
  have hown : s.vm.findClass RX0 = some m.cls := findClass_of_methodNamed B.named
  have hlocks := B.notSynchronized
  have hS : va_S (pw_AX h 7) s.heap s.heap [] := va_S.rf
  have hP : va_P D pw_cl (pw_X0 d h fa fb fn fp fr fq fe) s.heap := hP
  have hK : va_K D pw_cl [(d, .int)] s := hK
  have hl := lv_entry ([.ref (h 0), .int x, .int y]) (n := 6) (Nat.le_of_ble_eq_true rfl)
  rw [lg_entry_eq]
  generalize (lg_sl ([.ref (h 0), .int x, .int y]) ++ List.replicate (6 - (lg_sl ([.ref (h 0), .int x, .int y])).length) Slot.unset).toArray = ls at hl ⊢
  have hl : lv_has ls 6 [(0, .ref (h 0)), (1, .int x), (2, .int y)] := hl
  refine lv_iload_n hx hb dX0_put_0 rfl (lv_at hl 1 rfl) ?_
  refine pw_callS (As := [.int x]) (rest := []) ⟨hx, hb, hml, hown, hts⟩ (metX0_isThing l D x) (va_cwS 1 hts (lw_S q50 q51 q13 q52) rfl rfl rfl (by decide +kernel) ⟨Nat.le_of_ble_eq_true rfl, Nat.le_of_ble_eq_true rfl⟩) hK hS rfl hl.1 rfl (Nat.le_of_ble_eq_true rfl) dX0_put_1 ⟨Nat.zero_le _, Nat.zero_le _⟩ (fun r1 H locs er1 hk hS => ?_)
  have hP := pw_keep hP hk
  subst er1
  refine lv_if_eq (tgt := 32) hx hb dX0_put_4 (by decide) (fun c4 => ?_) (fun c4 => ?_)
  · have hno : ∀ a b, a < 10 → b < 10 → x = nI a → y = nI b → a = b ∨ R b a = true := fun a b ha _ ea _ => (pw_tf (pw_bI_0.mp c4) (by rw [ea]; exact pw_th_nI ha)).elim
    refine lv_iconst (v := (-1)) hx hb dX0_put_32 (by decide +kernel) ?_
    exact pw_ret0 hx hb hr hlocks hP hS rfl (Or.inl ⟨rfl, ⟨rfl, rfl⟩, hno⟩) dX0_put_33
  · have e1 := pw_bI_n.mp c4
    refine lv_iload_n hx hb dX0_put_7 rfl (lv_at hl 2 rfl) ?_
    refine pw_callS (As := [.int y]) (rest := []) ⟨hx, hb, hml, hown, hts⟩ (metX0_isThing l D y) (va_cwS 1 hts (lw_S q50 q51 q13 q52) rfl rfl rfl (by decide +kernel) ⟨Nat.le_of_ble_eq_true rfl, Nat.le_of_ble_eq_true rfl⟩) hK hS rfl hl.1 rfl (Nat.le_of_ble_eq_true rfl) dX0_put_8 ⟨Nat.zero_le _, Nat.zero_le _⟩ (fun r2 H locs er2 hk hS => ?_)
    have hP := pw_keep hP hk
    subst er2
    refine lv_if_eq (tgt := 32) hx hb dX0_put_11 (by decide) (fun c11 => ?_) (fun c11 => ?_)
    · have hno : ∀ a b, a < 10 → b < 10 → x = nI a → y = nI b → a = b ∨ R b a = true := fun a b _ hb9 _ eb => (pw_tf (pw_bI_0.mp c11) (by rw [eb]; exact pw_th_nI hb9)).elim
      refine lv_iconst (v := (-1)) hx hb dX0_put_32 (by decide +kernel) ?_
      exact pw_ret0 hx hb hr hlocks hP hS rfl (Or.inl ⟨rfl, ⟨rfl, rfl⟩, hno⟩) dX0_put_33
    · have e2 := pw_bI_n.mp c11
      refine lv_iload_n hx hb dX0_put_14 rfl (lv_at hl 1 rfl) ?_
      refine lv_iload_n hx hb dX0_put_15 rfl (lv_at hl 2 rfl) ?_
      refine lv_icmp_eq (tgt := 32) hx hb dX0_put_16 (by decide) (fun c16 => ?_) (fun c16 => ?_)
      · have hno : ∀ a b, a < 10 → b < 10 → x = nI a → y = nI b → a = b ∨ R b a = true := fun a b ha hb9 ea eb => Or.inl ((nI_eq (by omega) (by omega)).mp (by rw [← ea, ← eb]; exact c16))
        refine lv_iconst (v := (-1)) hx hb dX0_put_32 (by decide +kernel) ?_
        exact pw_ret0 hx hb hr hlocks hP hS rfl (Or.inl ⟨rfl, ⟨rfl, rfl⟩, hno⟩) dX0_put_33
      · obtain ⟨a, ha, rfl⟩ := pw_th_of e1
        obtain ⟨b, hb9, rfl⟩ := pw_th_of e2
        have hne : a ≠ b := fun z => c16 (by rw [z])
        refine lv_aload_n hx hb dX0_put_19 rfl (lv_at hl 0 rfl) ?_
        refine va_get (D := D) (ci := 0) (v := .ref (h 1)) (C := RX0) (T := TX0) (N := 7) hx hb hts in_X0 hown hK hP 0 rfl rfl 0 (by decide) (hts _ q23) (fun _ h9 => h9) rfl dX0_put_20 ?_
        refine lv_iload_n hx hb dX0_put_23 rfl (lv_at hl 2 rfl) ?_
        refine pw_iald hx hb hK hP 1 0 rfl rfl hb9 (by decide) dX0_put_24 ?_
        refine pw_top (y := (pw_ms (R b))) (hR.1 b hb9) ?_
        refine lv_iload_n hx hb dX0_put_25 rfl (lv_at hl 1 rfl) ?_
        refine lv_iushr (v := (((pw_ms (R b))).toUInt32 >>> (((nI a)).toUInt32 &&& Int32.toUInt32 31)).toInt32) hx hb dX0_put_26 rfl ?_
        refine lv_iconst (v := 1) hx hb dX0_put_27 (by decide +kernel) ?_
        refine lv_iand hx hb dX0_put_28 ?_
        refine pw_top (y := (pw_bI (R b a))) (pw_ms_bit (R b) ha) ?_
        refine lv_if_eq (tgt := 34) hx hb dX0_put_29 (by decide) (fun c29 => ?_) (fun c29 => ?_)
        · have hba := pw_bI_0.mp c29
          refine lv_aload_n hx hb dX0_put_34 rfl (lv_at hl 0 rfl) ?_
          refine va_get (D := D) (ci := 0) (v := .ref (h 2)) (C := RX0) (T := TX0) (N := 7) hx hb hts in_X0 hown hK hP 0 rfl rfl 1 (by decide) (hts _ q24) (fun _ h9 => h9) rfl dX0_put_35 ?_
          refine lv_iload_n hx hb dX0_put_38 rfl (lv_at hl 1 rfl) ?_
          refine pw_iald hx hb hK hP 2 0 rfl rfl ha (by decide) dX0_put_39 ?_
          refine pw_top (y := (pw_ms (fun u => R u a))) (hR.2 a ha) ?_
          refine lv_iconst (v := 1) hx hb dX0_put_40 (by decide +kernel) ?_
          refine lv_iload_n hx hb dX0_put_41 rfl (lv_at hl 1 rfl) ?_
          refine lv_ishl hx hb dX0_put_42 ?_
          refine pw_top (y := (pw_ms (fun i => i == a))) (pw_ms_one a ha) ?_
          refine lv_ior hx hb dX0_put_43 ?_
          refine pw_top (y := (pw_ms (pw_lo R a))) (pw_ms_or _ _) ?_
          refine lv_istore_n (lv' := [(3, .int (pw_ms (pw_lo R a))), (0, .ref (h 0)), (1, .int (nI a)), (2, .int (nI b))]) hx hb dX0_put_44 rfl hl (by decide) rfl (fun ls hl => ?_)
          refine lv_aload_n hx hb dX0_put_45 rfl (lv_at hl 1 rfl) ?_
          refine va_get (D := D) (ci := 0) (v := .ref (h 1)) (C := RX0) (T := TX0) (N := 7) hx hb hts in_X0 hown hK hP 0 rfl rfl 0 (by decide) (hts _ q23) (fun _ h9 => h9) rfl dX0_put_46 ?_
          refine lv_iload_n hx hb dX0_put_49 rfl (lv_at hl 3 rfl) ?_
          refine pw_iald hx hb hK hP 1 0 rfl rfl hb9 (by decide) dX0_put_50 ?_
          refine pw_top (y := (pw_ms (R b))) (hR.1 b hb9) ?_
          refine lv_iconst (v := 1) hx hb dX0_put_51 (by decide +kernel) ?_
          refine lv_iload_n hx hb dX0_put_52 rfl (lv_at hl 3 rfl) ?_
          refine lv_ishl hx hb dX0_put_53 ?_
          refine pw_top (y := (pw_ms (fun i => i == b))) (pw_ms_one b hb9) ?_
          refine lv_ior hx hb dX0_put_54 ?_
          refine pw_top (y := (pw_ms (pw_hi R b))) (pw_ms_or _ _) ?_
          refine lv_istore (lv' := [(4, .int (pw_ms (pw_hi R b))), (3, .int (pw_ms (pw_lo R a))), (0, .ref (h 0)), (1, .int (nI a)), (2, .int (nI b))]) hx hb dX0_put_55 hl (by decide) rfl (fun ls hl => ?_)
          refine lv_iconst (v := (nI 0)) hx hb dX0_put_57 (by decide +kernel) ?_
          refine lv_istore (lv' := [(5, .int (nI 0)), (4, .int (pw_ms (pw_hi R b))), (3, .int (pw_ms (pw_lo R a))), (0, .ref (h 0)), (1, .int (nI a)), (2, .int (nI b))]) hx hb dX0_put_58 hl (by decide) rfl (fun ls hl => ?_)
          have LOOP60 : ∀ (n : Nat) (t : Nat) (ga gb : Nat → Int32), t ≤ 10 → 10 + 1 ≤ t + n → (∀ i, i < 10 → ga i = pw_ms (pw_pa R a b t i)) → (∀ i, i < 10 → gb i = pw_ms (pw_pb R a b t i)) → ∀ (H : Heap) (locs : List Loc), va_P D pw_cl (pw_X0 d h ga gb fn fp fr fq fe) H → va_S (pw_AX h 7) s.heap H locs → ∀ (ls : Array Slot), lv_has ls 6 [(0, .ref (h 0)), (1, .int (nI a)), (2, .int (nI b)), (3, .int (pw_ms (pw_lo R a))), (4, .int (pw_ms (pw_hi R b))), (5, .int (nI t))] → W p l e (headSpec (ws_ yX0_put cX0_put 6 (some .int)) ({ frames := 2, cells := 0, slots := 0, locals := 44 })).room s m ([.ref (h 0), .int (nI a), .int (nI b)] : List Value).toArray below meth c H locs 0 0 (MQ below (pw_Q0 (fun r u => pw_Pp R (nI a) (nI b) r (pw_K2 fa fb u) (fun R2 => pw_Rep R2 u.1 u.2.1)) D d h) ([.ref (h 0), .int (nI a), .int (nI b)] : List Value).toArray s 0 0 (pw_AX h 7)) (F0 m 60 ls []) := by
            intro n
            induction n with
            | zero =>
              intro t ga gb hi hn hA hB
              exfalso; omega
            | succ n ih60 =>
              intro t ga gb hi hn hA hB H locs hP hS ls hl
              refine lv_iload hx hb dX0_put_60 (lv_at hl 5 rfl) ?_
              refine lv_bipush (v := (nI 10)) hx hb dX0_put_62 (by decide +kernel) ?_
              refine lv_icmp_ge (tgt := 115) hx hb dX0_put_64 (by decide) (fun c64 => ?_) (fun c64 => ?_)
              · have ht : t = 10 := pw_ge c64 hi (by decide)
                have hR2 : pw_Rep (pw_put R a b) ga gb := pw_pab_e (by rw [ht] at hA; exact hA) (by rw [ht] at hB; exact hB)
                refine lv_aload_n hx hb dX0_put_115 rfl (lv_at hl 0 rfl) ?_
                refine pw_callV (As := []) (rest := []) ⟨hx, hb, hml, hown, hts⟩ (metX0_pairs l D d h (pw_put R a b) ga gb fn fp fr fq fe hR2) (cwV 0 hts (lw_V q53 q55 qs0 q13 q56) rfl rfl rfl (by decide +kernel) ⟨Nat.le_of_ble_eq_true rfl, Nat.le_of_ble_eq_true rfl⟩) hK hP [0] rfl (ci := 0) rfl rfl rfl hS rfl hl.1 rfl (Nat.le_of_ble_eq_true rfl) dX0_put_116 ⟨Nat.zero_le _, Nat.zero_le _⟩ (fun r3 H locs er3 hk hS => ?_)
                have hP := pw_keep hP hk
                subst er3
                exact pw_ret0 hx hb hr hlocks hP hS rfl (Or.inr ⟨a, b, ha, hb9, rfl, rfl, hne, hba, rfl, hR2⟩) dX0_put_119
              · have ht : t < 10 := pw_lt c64 hi (by decide)
                refine lv_iload_n hx hb dX0_put_67 rfl (lv_at hl 3 rfl) ?_
                refine lv_iload hx hb dX0_put_68 (lv_at hl 5 rfl) ?_
                refine lv_iushr (v := (((pw_ms (pw_lo R a))).toUInt32 >>> (((nI t)).toUInt32 &&& Int32.toUInt32 31)).toInt32) hx hb dX0_put_70 rfl ?_
                refine lv_iconst (v := 1) hx hb dX0_put_71 (by decide +kernel) ?_
                refine lv_iand hx hb dX0_put_72 ?_
                refine pw_top (y := (pw_bI (pw_lo R a t))) (pw_ms_bit (pw_lo R a) ht) ?_
                refine lv_if_eq (tgt := 88) hx hb dX0_put_73 (by decide) (fun c73 => ?_) (fun c73 => ?_)
                · have hA2 := pw_pa_no hA (pw_bI_0.mp c73)
                  refine lv_iload hx hb dX0_put_88 (lv_at hl 4 rfl) ?_
                  refine lv_iload hx hb dX0_put_90 (lv_at hl 5 rfl) ?_
                  refine lv_iushr (v := (((pw_ms (pw_hi R b))).toUInt32 >>> (((nI t)).toUInt32 &&& Int32.toUInt32 31)).toInt32) hx hb dX0_put_92 rfl ?_
                  refine lv_iconst (v := 1) hx hb dX0_put_93 (by decide +kernel) ?_
                  refine lv_iand hx hb dX0_put_94 ?_
                  refine pw_top (y := (pw_bI (pw_hi R b t))) (pw_ms_bit (pw_hi R b) ht) ?_
                  refine lv_if_eq (tgt := 109) hx hb dX0_put_95 (by decide) (fun c95 => ?_) (fun c95 => ?_)
                  · have hB2 := pw_pb_no hB (pw_bI_0.mp c95)
                    refine lv_iinc (v := (nI (t + 1))) (lv' := [(5, .int (nI (t + 1))), (0, .ref (h 0)), (1, .int (nI a)), (2, .int (nI b)), (3, .int (pw_ms (pw_lo R a))), (4, .int (pw_ms (pw_hi R b)))]) hx hb dX0_put_109 hl (k := 5) rfl (pw_inc _) (by decide) rfl (fun ls hl => ?_)
                    refine lv_goto (tgt := 60) hx hb dX0_put_112 (by decide) ?_
                    exact ih60 (t + 1) _ _ (by omega) (by omega) hA2 hB2 _ _ hP hS ls (lv_sub hl [1, 2, 3, 4, 5, 0] rfl)
                  · have hB2 := pw_pb_yes hB (pw_bI_n.mp c95)
                    refine lv_aload_n hx hb dX0_put_98 rfl (lv_at hl 0 rfl) ?_
                    refine va_get (D := D) (ci := 0) (v := .ref (h 2)) (C := RX0) (T := TX0) (N := 7) hx hb hts in_X0 hown hK hP 0 rfl rfl 1 (by decide) (hts _ q24) (fun _ h9 => h9) rfl dX0_put_99 ?_
                    refine lv_iload hx hb dX0_put_102 (lv_at hl 5 rfl) ?_
                    refine lv_dup2_11 hx hb dX0_put_104 rfl rfl ?_
                    refine pw_iald hx hb hK hP 2 0 rfl rfl ht (by decide) dX0_put_105 ?_
                    refine pw_top (y := (pw_ms (fun u => R u t))) ((hB t ht).trans pw_pb_t) ?_
                    refine lv_iload_n hx hb dX0_put_106 rfl (lv_at hl 3 rfl) ?_
                    refine lv_ior hx hb dX0_put_107 ?_
                    refine pw_top (y := (pw_ms (fun u => R u t || pw_lo R a u))) (pw_ms_or _ _) ?_
                    refine pw_iast hx hb hK hP (pw_X0_D hj pw_AXi) hS 2 0 rfl rfl ht (by decide) dX0_put_108 (fun H locs hP hS => ?_)
                    have hP : va_P D pw_cl (pw_X0 d h ga (upd gb t (pw_ms (fun u => R u t || pw_lo R a u))) fn fp fr fq fe) H := hP
                    refine lv_iinc (v := (nI (t + 1))) (lv' := [(5, .int (nI (t + 1))), (0, .ref (h 0)), (1, .int (nI a)), (2, .int (nI b)), (3, .int (pw_ms (pw_lo R a))), (4, .int (pw_ms (pw_hi R b)))]) hx hb dX0_put_109 hl (k := 5) rfl (pw_inc _) (by decide) rfl (fun ls hl => ?_)
                    refine lv_goto (tgt := 60) hx hb dX0_put_112 (by decide) ?_
                    exact ih60 (t + 1) _ _ (by omega) (by omega) hA2 hB2 _ _ hP hS ls (lv_sub hl [1, 2, 3, 4, 5, 0] rfl)
                · have hA2 := pw_pa_yes hA (pw_bI_n.mp c73)
                  refine lv_aload_n hx hb dX0_put_76 rfl (lv_at hl 0 rfl) ?_
                  refine va_get (D := D) (ci := 0) (v := .ref (h 1)) (C := RX0) (T := TX0) (N := 7) hx hb hts in_X0 hown hK hP 0 rfl rfl 0 (by decide) (hts _ q23) (fun _ h9 => h9) rfl dX0_put_77 ?_
                  refine lv_iload hx hb dX0_put_80 (lv_at hl 5 rfl) ?_
                  refine lv_dup2_11 hx hb dX0_put_82 rfl rfl ?_
                  refine pw_iald hx hb hK hP 1 0 rfl rfl ht (by decide) dX0_put_83 ?_
                  refine pw_top (y := (pw_ms (R t))) ((hA t ht).trans pw_pa_t) ?_
                  refine lv_iload hx hb dX0_put_84 (lv_at hl 4 rfl) ?_
                  refine lv_ior hx hb dX0_put_86 ?_
                  refine pw_top (y := (pw_ms (fun i => R t i || pw_hi R b i))) (pw_ms_or _ _) ?_
                  refine pw_iast hx hb hK hP (pw_X0_D hj pw_AXi) hS 1 0 rfl rfl ht (by decide) dX0_put_87 (fun H locs hP hS => ?_)
                  have hP : va_P D pw_cl (pw_X0 d h (upd ga t (pw_ms (fun i => R t i || pw_hi R b i))) gb fn fp fr fq fe) H := hP
                  refine lv_iload hx hb dX0_put_88 (lv_at hl 4 rfl) ?_
                  refine lv_iload hx hb dX0_put_90 (lv_at hl 5 rfl) ?_
                  refine lv_iushr (v := (((pw_ms (pw_hi R b))).toUInt32 >>> (((nI t)).toUInt32 &&& Int32.toUInt32 31)).toInt32) hx hb dX0_put_92 rfl ?_
                  refine lv_iconst (v := 1) hx hb dX0_put_93 (by decide +kernel) ?_
                  refine lv_iand hx hb dX0_put_94 ?_
                  refine pw_top (y := (pw_bI (pw_hi R b t))) (pw_ms_bit (pw_hi R b) ht) ?_
                  refine lv_if_eq (tgt := 109) hx hb dX0_put_95 (by decide) (fun c95 => ?_) (fun c95 => ?_)
                  · have hB2 := pw_pb_no hB (pw_bI_0.mp c95)
                    refine lv_iinc (v := (nI (t + 1))) (lv' := [(5, .int (nI (t + 1))), (0, .ref (h 0)), (1, .int (nI a)), (2, .int (nI b)), (3, .int (pw_ms (pw_lo R a))), (4, .int (pw_ms (pw_hi R b)))]) hx hb dX0_put_109 hl (k := 5) rfl (pw_inc _) (by decide) rfl (fun ls hl => ?_)
                    refine lv_goto (tgt := 60) hx hb dX0_put_112 (by decide) ?_
                    exact ih60 (t + 1) _ _ (by omega) (by omega) hA2 hB2 _ _ hP hS ls (lv_sub hl [1, 2, 3, 4, 5, 0] rfl)
                  · have hB2 := pw_pb_yes hB (pw_bI_n.mp c95)
                    refine lv_aload_n hx hb dX0_put_98 rfl (lv_at hl 0 rfl) ?_
                    refine va_get (D := D) (ci := 0) (v := .ref (h 2)) (C := RX0) (T := TX0) (N := 7) hx hb hts in_X0 hown hK hP 0 rfl rfl 1 (by decide) (hts _ q24) (fun _ h9 => h9) rfl dX0_put_99 ?_
                    refine lv_iload hx hb dX0_put_102 (lv_at hl 5 rfl) ?_
                    refine lv_dup2_11 hx hb dX0_put_104 rfl rfl ?_
                    refine pw_iald hx hb hK hP 2 0 rfl rfl ht (by decide) dX0_put_105 ?_
                    refine pw_top (y := (pw_ms (fun u => R u t))) ((hB t ht).trans pw_pb_t) ?_
                    refine lv_iload_n hx hb dX0_put_106 rfl (lv_at hl 3 rfl) ?_
                    refine lv_ior hx hb dX0_put_107 ?_
                    refine pw_top (y := (pw_ms (fun u => R u t || pw_lo R a u))) (pw_ms_or _ _) ?_
                    refine pw_iast hx hb hK hP (pw_X0_D hj pw_AXi) hS 2 0 rfl rfl ht (by decide) dX0_put_108 (fun H locs hP hS => ?_)
                    have hP : va_P D pw_cl (pw_X0 d h (upd ga t (pw_ms (fun i => R t i || pw_hi R b i))) (upd gb t (pw_ms (fun u => R u t || pw_lo R a u))) fn fp fr fq fe) H := hP
                    refine lv_iinc (v := (nI (t + 1))) (lv' := [(5, .int (nI (t + 1))), (0, .ref (h 0)), (1, .int (nI a)), (2, .int (nI b)), (3, .int (pw_ms (pw_lo R a))), (4, .int (pw_ms (pw_hi R b)))]) hx hb dX0_put_109 hl (k := 5) rfl (pw_inc _) (by decide) rfl (fun ls hl => ?_)
                    refine lv_goto (tgt := 60) hx hb dX0_put_112 (by decide) ?_
                    exact ih60 (t + 1) _ _ (by omega) (by omega) hA2 hB2 _ _ hP hS ls (lv_sub hl [1, 2, 3, 4, 5, 0] rfl)
          exact LOOP60 11 0 fa fb (by omega) (by omega) (pw_pab_0 hR).1 (pw_pab_0 hR).2 _ _ hP hS ls (lv_sub hl [3, 4, 5, 2, 1, 0] rfl)
        · have hno : ∀ a2 b2, a2 < 10 → b2 < 10 → nI a = nI a2 → nI b = nI b2 → a2 = b2 ∨ R b2 a2 = true := fun a2 b2 h1 h2 h3 h4 => Or.inr (by rw [← (nI_eq (by omega) (by omega)).mp h3, ← (nI_eq (by omega) (by omega)).mp h4]; exact pw_bI_n.mp c29)
          refine lv_iconst (v := (-1)) hx hb dX0_put_32 (by decide +kernel) ?_
          exact pw_ret0 hx hb hr hlocks hP hS rfl (Or.inl ⟨rfl, ⟨rfl, rfl⟩, hno⟩) dX0_put_33
set_option maxHeartbeats 4000000 in
set_option maxRecDepth 100000 in
/-- release(x) -/
theorem metX0_release (l : Launch) (D : va_G) (d : ClassId) (h : Nat → Nat) (hj : ∀ i j, i < 7 → j < 7 → h i = h j → i = j) (R : Nat → Nat → Bool) (fa fb fn fp fr fq : Nat → Int32) (fe : Int32) (x : Int32) (hR : pw_Rep R fa fb) : pw_MU l yX0_release cX0_release 3 (some .int) ({ frames := 2, cells := 0, slots := 0, locals := 44 }) D d h fa fb fn fp fr fq fe [.ref (h 0), .int x] (fun r u => pw_Pr R x r (pw_K2 fa fb u) (fun R2 => pw_Rep R2 u.1 u.2.1)) := by
  refine Met.ofW (cc := cX0_release) (maxL := 3) (ret := (some .int)) (by decide) rfl ?_
  intro p e s m args below meth c s₁ B hml hv
  obtain ⟨rfl, hP, hK⟩ := hv
  have hx := B.exec
  have hb := B.bytes
  have hr := B.returns
  have hts := atoms_spec (ws := ws_ yX0_release cX0_release 3 (some .int)) B.pre
  have hts : ∀ w ∈ lw_all, w.before _ s = true := fun w h => hts w (List.mem_cons_of_mem _ h)
  have hown : s.vm.findClass RX0 = some m.cls := findClass_of_methodNamed B.named
  have hlocks := B.notSynchronized
  have hS : va_S (pw_AX h 7) s.heap s.heap [] := va_S.rf
  have hP : va_P D pw_cl (pw_X0 d h fa fb fn fp fr fq fe) s.heap := hP
  have hK : va_K D pw_cl [(d, .int)] s := hK
  have hl := lv_entry ([.ref (h 0), .int x]) (n := 3) (Nat.le_of_ble_eq_true rfl)
  rw [lg_entry_eq]
  generalize (lg_sl ([.ref (h 0), .int x]) ++ List.replicate (3 - (lg_sl ([.ref (h 0), .int x])).length) Slot.unset).toArray = ls at hl ⊢
  have hl : lv_has ls 3 [(0, .ref (h 0)), (1, .int x)] := hl
  refine lv_iload_n hx hb dX0_release_0 rfl (lv_at hl 1 rfl) ?_
  refine pw_callS (As := [.int x]) (rest := []) ⟨hx, hb, hml, hown, hts⟩ (metX0_isThing l D x) (va_cwS 1 hts (lw_S q50 q51 q13 q52) rfl rfl rfl (by decide +kernel) ⟨Nat.le_of_ble_eq_true rfl, Nat.le_of_ble_eq_true rfl⟩) hK hS rfl hl.1 rfl (Nat.le_of_ble_eq_true rfl) dX0_release_1 ⟨Nat.zero_le _, Nat.zero_le _⟩ (fun r1 H locs er1 hk hS => ?_)
  have hP := pw_keep hP hk
  subst er1
  refine lv_if_ne (tgt := 9) hx hb dX0_release_4 (by decide) (fun c4 => ?_) (fun c4 => ?_)
  · obtain ⟨v, hv9, rfl⟩ := pw_th_of (pw_bI_n.mp c4)
    refine lv_iconst (v := (nI 0)) hx hb dX0_release_9 (by decide +kernel) ?_
    refine lv_istore_n (lv' := [(2, .int (nI 0)), (0, .ref (h 0)), (1, .int (nI v))]) hx hb dX0_release_10 rfl hl (by decide) rfl (fun ls hl => ?_)
    have LOOP11 : ∀ (n : Nat) (t : Nat) (ga gb : Nat → Int32), t ≤ 10 → 10 + 1 ≤ t + n → (∀ i, i < 10 → ga i = pw_ms (pw_ra R v t i)) → (∀ i, i < 10 → gb i = pw_ms (pw_rb R v t i)) → ∀ (H : Heap) (locs : List Loc), va_P D pw_cl (pw_X0 d h ga gb fn fp fr fq fe) H → va_S (pw_AX h 7) s.heap H locs → ∀ (ls : Array Slot), lv_has ls 3 [(0, .ref (h 0)), (1, .int (nI v)), (2, .int (nI t))] → W p l e (headSpec (ws_ yX0_release cX0_release 3 (some .int)) ({ frames := 2, cells := 0, slots := 0, locals := 44 })).room s m ([.ref (h 0), .int (nI v)] : List Value).toArray below meth c H locs 0 0 (MQ below (pw_Q0 (fun r u => pw_Pr R (nI v) r (pw_K2 fa fb u) (fun R2 => pw_Rep R2 u.1 u.2.1)) D d h) ([.ref (h 0), .int (nI v)] : List Value).toArray s 0 0 (pw_AX h 7)) (F0 m 11 ls []) := by
      intro n
      induction n with
      | zero =>
        intro t ga gb hi hn hA hB
        exfalso; omega
      | succ n ih11 =>
        intro t ga gb hi hn hA hB H locs hP hS ls hl
        refine lv_iload_n hx hb dX0_release_11 rfl (lv_at hl 2 rfl) ?_
        refine lv_bipush (v := (nI 10)) hx hb dX0_release_12 (by decide +kernel) ?_
        refine lv_icmp_ge (tgt := 51) hx hb dX0_release_14 (by decide) (fun c14 => ?_) (fun c14 => ?_)
        · have ht : t = 10 := pw_ge c14 hi (by decide)
          have hR2 : pw_Rep (pw_rel R v) (upd ga v 0) (upd gb v 0) := pw_rab_e (by rw [ht] at hA; exact hA) (by rw [ht] at hB; exact hB)
          refine lv_aload_n hx hb dX0_release_51 rfl (lv_at hl 0 rfl) ?_
          refine va_get (D := D) (ci := 0) (v := .ref (h 1)) (C := RX0) (T := TX0) (N := 7) hx hb hts in_X0 hown hK hP 0 rfl rfl 0 (by decide) (hts _ q23) (fun _ h9 => h9) rfl dX0_release_52 ?_
          refine lv_iload_n hx hb dX0_release_55 rfl (lv_at hl 1 rfl) ?_
          refine lv_iconst (v := 0) hx hb dX0_release_56 (by decide +kernel) ?_
          refine pw_iast hx hb hK hP (pw_X0_D hj pw_AXi) hS 1 0 rfl rfl hv9 (by decide) dX0_release_57 (fun H locs hP hS => ?_)
          have hP : va_P D pw_cl (pw_X0 d h (upd ga v 0) gb fn fp fr fq fe) H := hP
          refine lv_aload_n hx hb dX0_release_58 rfl (lv_at hl 0 rfl) ?_
          refine va_get (D := D) (ci := 0) (v := .ref (h 2)) (C := RX0) (T := TX0) (N := 7) hx hb hts in_X0 hown hK hP 0 rfl rfl 1 (by decide) (hts _ q24) (fun _ h9 => h9) rfl dX0_release_59 ?_
          refine lv_iload_n hx hb dX0_release_62 rfl (lv_at hl 1 rfl) ?_
          refine lv_iconst (v := 0) hx hb dX0_release_63 (by decide +kernel) ?_
          refine pw_iast hx hb hK hP (pw_X0_D hj pw_AXi) hS 2 0 rfl rfl hv9 (by decide) dX0_release_64 (fun H locs hP hS => ?_)
          have hP : va_P D pw_cl (pw_X0 d h (upd ga v 0) (upd gb v 0) fn fp fr fq fe) H := hP
          refine lv_aload_n hx hb dX0_release_65 rfl (lv_at hl 0 rfl) ?_
          refine pw_callV (As := []) (rest := []) ⟨hx, hb, hml, hown, hts⟩ (metX0_pairs l D d h (pw_rel R v) (upd ga v 0) (upd gb v 0) fn fp fr fq fe hR2) (cwV 0 hts (lw_V q53 q55 qs0 q13 q56) rfl rfl rfl (by decide +kernel) ⟨Nat.le_of_ble_eq_true rfl, Nat.le_of_ble_eq_true rfl⟩) hK hP [0] rfl (ci := 0) rfl rfl rfl hS rfl hl.1 rfl (Nat.le_of_ble_eq_true rfl) dX0_release_66 ⟨Nat.zero_le _, Nat.zero_le _⟩ (fun r3 H locs er3 hk hS => ?_)
          have hP := pw_keep hP hk
          subst er3
          exact pw_ret0 hx hb hr hlocks hP hS rfl (Or.inr ⟨v, hv9, rfl, rfl, hR2⟩) dX0_release_69
        · have ht : t < 10 := pw_lt c14 hi (by decide)
          refine lv_aload_n hx hb dX0_release_17 rfl (lv_at hl 0 rfl) ?_
          refine va_get (D := D) (ci := 0) (v := .ref (h 1)) (C := RX0) (T := TX0) (N := 7) hx hb hts in_X0 hown hK hP 0 rfl rfl 0 (by decide) (hts _ q23) (fun _ h9 => h9) rfl dX0_release_18 ?_
          refine lv_iload_n hx hb dX0_release_21 rfl (lv_at hl 2 rfl) ?_
          refine lv_dup2_11 hx hb dX0_release_22 rfl rfl ?_
          refine pw_iald hx hb hK hP 1 0 rfl rfl ht (by decide) dX0_release_23 ?_
          refine pw_top (y := (pw_ms (R t))) ((hA t ht).trans pw_ra_t) ?_
          refine lv_iconst (v := 1) hx hb dX0_release_24 (by decide +kernel) ?_
          refine lv_iload_n hx hb dX0_release_25 rfl (lv_at hl 1 rfl) ?_
          refine lv_ishl hx hb dX0_release_26 ?_
          refine pw_top (y := (pw_ms (fun i => i == v))) (pw_ms_one v hv9) ?_
          refine lv_iconst (v := (-1)) hx hb dX0_release_27 (by decide +kernel) ?_
          refine lv_ixor hx hb dX0_release_28 ?_
          refine lv_iand hx hb dX0_release_29 ?_
          refine pw_top (y := (pw_ms (fun i => R t i && !(i == v)))) (pw_ms_andn _ _) ?_
          refine pw_iast hx hb hK hP (pw_X0_D hj pw_AXi) hS 1 0 rfl rfl ht (by decide) dX0_release_30 (fun H locs hP hS => ?_)
          have hP : va_P D pw_cl (pw_X0 d h (upd ga t (pw_ms (fun i => R t i && !(i == v)))) gb fn fp fr fq fe) H := hP
          refine lv_aload_n hx hb dX0_release_31 rfl (lv_at hl 0 rfl) ?_
          refine va_get (D := D) (ci := 0) (v := .ref (h 2)) (C := RX0) (T := TX0) (N := 7) hx hb hts in_X0 hown hK hP 0 rfl rfl 1 (by decide) (hts _ q24) (fun _ h9 => h9) rfl dX0_release_32 ?_
          refine lv_iload_n hx hb dX0_release_35 rfl (lv_at hl 2 rfl) ?_
          refine lv_dup2_11 hx hb dX0_release_36 rfl rfl ?_
          refine pw_iald hx hb hK hP 2 0 rfl rfl ht (by decide) dX0_release_37 ?_
          refine pw_top (y := (pw_ms (fun u => R u t))) ((hB t ht).trans pw_rb_t) ?_
          refine lv_iconst (v := 1) hx hb dX0_release_38 (by decide +kernel) ?_
          refine lv_iload_n hx hb dX0_release_39 rfl (lv_at hl 1 rfl) ?_
          refine lv_ishl hx hb dX0_release_40 ?_
          refine pw_top (y := (pw_ms (fun i => i == v))) (pw_ms_one v hv9) ?_
          refine lv_iconst (v := (-1)) hx hb dX0_release_41 (by decide +kernel) ?_
          refine lv_ixor hx hb dX0_release_42 ?_
          refine lv_iand hx hb dX0_release_43 ?_
          refine pw_top (y := (pw_ms (fun u => R u t && !(u == v)))) (pw_ms_andn _ _) ?_
          refine pw_iast hx hb hK hP (pw_X0_D hj pw_AXi) hS 2 0 rfl rfl ht (by decide) dX0_release_44 (fun H locs hP hS => ?_)
          have hP : va_P D pw_cl (pw_X0 d h (upd ga t (pw_ms (fun i => R t i && !(i == v)))) (upd gb t (pw_ms (fun u => R u t && !(u == v)))) fn fp fr fq fe) H := hP
          refine lv_iinc (v := (nI (t + 1))) (lv' := [(2, .int (nI (t + 1))), (0, .ref (h 0)), (1, .int (nI v))]) hx hb dX0_release_45 hl (k := 2) rfl (pw_inc _) (by decide) rfl (fun ls hl => ?_)
          refine lv_goto (tgt := 11) hx hb dX0_release_48 (by decide) ?_
          exact ih11 (t + 1) _ _ (by omega) (by omega) (pw_ra_s hA) (pw_rb_s hB) _ _ hP hS ls (lv_sub hl [1, 2, 0] rfl)
    exact LOOP11 11 0 fa fb (by omega) (by omega) (pw_rab_0 hR).1 (pw_rab_0 hR).2 _ _ hP hS ls (lv_sub hl [1, 2, 0] rfl)
  · have ez : pw_th x = false := pw_bI_0.mp c4
    refine lv_iconst (v := (-1)) hx hb dX0_release_7 (by decide +kernel) ?_
    exact pw_ret0 hx hb hr hlocks hP hS rfl (Or.inl ⟨ez, rfl, ⟨rfl, rfl⟩⟩) dX0_release_8
set_option maxHeartbeats 4000000 in
set_option maxRecDepth 100000 in
/-- turnWay(end) -/
theorem metX0_turnWay (l : Launch) (D : va_G) (d : ClassId) (h : Nat → Nat) (hj : ∀ i j, i < 7 → j < 7 → h i = h j → i = j) (S : Nat → Bool) (R : Nat → Nat → Bool) (fa fb fn fp fr fq : Nat → Int32) (fe : Int32) (L K : Nat → Prop) (root : Nat) (rf : Nat → Option Nat) (qu : Nat → Nat) (nx pv : Nat → Option Nat) (qe t0 : Nat) (hW : pw_Way S R nx root rf qu qe) (hL : ∀ u v, L u → v < 10 → S v = true → R u v = true → K v) (hT : pw_TI S R L K root rf qu nx qe (some t0) nx pv) (hEn : pw_En fn nx) (hEp : pw_En fp pv) (hEr : pw_En fr rf) : pw_MV l yX0_turnWay cX0_turnWay 6 ({ frames := 0, cells := 0, slots := 0, locals := 0 }) D d h fa fb fn fp fr fq fe [.ref (h 0), .int (nI t0)] (fun u => pw_K2 fa fb u ∧ ∃ nx2 pv2 jb, pw_En u.2.2.1 nx2 ∧ pw_En u.2.2.2.1 pv2 ∧ pw_TI S R L K root rf qu nx jb none nx2 pv2) := by
  refine Met.ofW (cc := cX0_turnWay) (maxL := 6) (ret := none) (by decide) rfl ?_
  intro p e s m args below meth c s₁ B hml hv
  obtain ⟨rfl, hP, hK⟩ := hv
  have hx := B.exec
  have hb := B.bytes
  have hr := B.returns
  have hts := atoms_spec (ws := ws_ yX0_turnWay cX0_turnWay 6 none) B.pre
  have hts : ∀ w ∈ lw_all, w.before _ s = true := fun w h => hts w (List.mem_cons_of_mem _ h)
  have hown : s.vm.findClass RX0 = some m.cls := findClass_of_methodNamed B.named
  have hlocks := B.notSynchronized
  have hS : va_S (pw_AX h 7) s.heap s.heap [] := va_S.rf
  have hP : va_P D pw_cl (pw_X0 d h fa fb fn fp fr fq fe) s.heap := hP
  have hK : va_K D pw_cl [(d, .int)] s := hK
  have hl := lv_entry ([.ref (h 0), .int (nI t0)]) (n := 6) (Nat.le_of_ble_eq_true rfl)
  rw [lg_entry_eq]
  generalize (lg_sl ([.ref (h 0), .int (nI t0)]) ++ List.replicate (6 - (lg_sl ([.ref (h 0), .int (nI t0)])).length) Slot.unset).toArray = ls at hl ⊢
  have hl : lv_has ls 6 [(0, .ref (h 0)), (1, .int (nI t0))] := hl
  refine lv_iload_n hx hb dX0_turnWay_0 rfl (lv_at hl 1 rfl) ?_
  refine lv_istore_n (lv' := [(2, .int (nI t0)), (0, .ref (h 0)), (1, .int (nI t0))]) hx hb dX0_turnWay_1 rfl hl (by decide) rfl (fun ls hl => ?_)
  refine lv_iconst (v := (nI 0)) hx hb dX0_turnWay_2 (by decide +kernel) ?_
  refine lv_istore_n (lv' := [(3, .int (nI 0)), (2, .int (nI t0)), (0, .ref (h 0)), (1, .int (nI t0))]) hx hb dX0_turnWay_3 rfl hl (by decide) rfl (fun ls hl => ?_)
  have LOOP4 : ∀ (n : Nat) (k : Nat) (o : Option Nat) (jb : Nat) (nx1 pv1 : Nat → Option Nat) (gn gp : Nat → Int32), k + jb ≤ 10 → 10 + 1 ≤ k + n → jb ≤ qe → pw_TI S R L K root rf qu nx jb o nx1 pv1 → pw_En gn nx1 → pw_En gp pv1 → (∀ x, o = some x → x < 10) → ∀ (H : Heap) (locs : List Loc), va_P D pw_cl (pw_X0 d h fa fb gn gp fr fq fe) H → va_S (pw_AX h 7) s.heap H locs → ∀ (ls : Array Slot), lv_has ls 6 [(0, .ref (h 0)), (1, .int (nI t0)), (2, .int (pw_oI o)), (3, .int (nI k))] → W p l e (headSpec (ws_ yX0_turnWay cX0_turnWay 6 none) ({ frames := 0, cells := 0, slots := 0, locals := 0 })).room s m ([.ref (h 0), .int (nI t0)] : List Value).toArray below meth c H locs 0 0 (MQ below (pw_V0 (fun u => pw_K2 fa fb u ∧ ∃ nx2 pv2 jb, pw_En u.2.2.1 nx2 ∧ pw_En u.2.2.2.1 pv2 ∧ pw_TI S R L K root rf qu nx jb none nx2 pv2) D d h) ([.ref (h 0), .int (nI t0)] : List Value).toArray s 0 0 (pw_AX h 7)) (F0 m 4 ls []) := by
    intro n
    induction n with
    | zero =>
      intro k o jb nx1 pv1 gn gp hk hn hjb hT1 hE1 hE2 hv
      exfalso; omega
    | succ n ih4 =>
      intro k o jb nx1 pv1 gn gp hk hn hjb hT1 hE1 hE2 hv H locs hP hS ls hl
      refine lv_iload_n hx hb dX0_turnWay_4 rfl (lv_at hl 3 rfl) ?_
      refine lv_bipush (v := (nI 10)) hx hb dX0_turnWay_5 (by decide +kernel) ?_
      refine lv_icmp_ge (tgt := 56) hx hb dX0_turnWay_7 (by decide) (fun c7 => ?_) (fun c7 => ?_)
      · have hv0 : o = none := hT1.none0 (by have := pw_ge c7 (by omega) (by decide); omega)
        exact pw_retv hx hb hr hlocks hP hS (⟨⟨rfl, rfl⟩, nx1, pv1, jb, hE1, hE2, (by rw [hv0] at hT1; exact hT1)⟩) dX0_turnWay_56
      · refine lv_iload_n hx hb dX0_turnWay_10 rfl (lv_at hl 2 rfl) ?_
        refine lv_if_lt (tgt := 56) hx hb dX0_turnWay_11 (by decide) (fun c11 => ?_) (fun c11 => ?_)
        · have hv0 : o = none := (pw_oI_neg hv).mp c11
          exact pw_retv hx hb hr hlocks hP hS (⟨⟨rfl, rfl⟩, nx1, pv1, jb, hE1, hE2, (by rw [hv0] at hT1; exact hT1)⟩) dX0_turnWay_56
        · obtain ⟨v, rfl⟩ := pw_oI_some c11
          obtain ⟨u, j, hv9, hu9, hrf, hj9, hnx, hT2⟩ := hT1.step hW hL hjb
          refine lv_aload_n hx hb dX0_turnWay_14 rfl (lv_at hl 0 rfl) ?_
          refine va_get (D := D) (ci := 0) (v := .ref (h 5)) (C := RX0) (T := TX0) (N := 7) hx hb hts in_X0 hown hK hP 0 rfl rfl 4 (by decide) (hts _ q27) (fun _ h9 => h9) rfl dX0_turnWay_15 ?_
          refine lv_iload_n hx hb dX0_turnWay_18 rfl (lv_at hl 2 rfl) ?_
          refine pw_top (y := (nI v)) (rfl) ?_
          refine pw_iald hx hb hK hP 5 0 rfl rfl hv9 (by decide) dX0_turnWay_19 ?_
          refine pw_top (y := (nI u)) ((hEr v hv9).trans (by rw [hrf]; rfl)) ?_
          refine lv_istore (lv' := [(4, .int (nI u)), (0, .ref (h 0)), (1, .int (nI t0)), (2, .int (pw_oI (some v))), (3, .int (nI k))]) hx hb dX0_turnWay_20 hl (by decide) rfl (fun ls hl => ?_)
          refine lv_aload_n hx hb dX0_turnWay_22 rfl (lv_at hl 1 rfl) ?_
          refine va_get (D := D) (ci := 0) (v := .ref (h 3)) (C := RX0) (T := TX0) (N := 7) hx hb hts in_X0 hown hK hP 0 rfl rfl 2 (by decide) (hts _ q25) (fun _ h9 => h9) rfl dX0_turnWay_23 ?_
          refine lv_iload hx hb dX0_turnWay_26 (lv_at hl 0 rfl) ?_
          refine pw_iald hx hb hK hP 3 0 rfl rfl hu9 (by decide) dX0_turnWay_28 ?_
          refine pw_top (y := (pw_oI (nx1 u))) (hE1 u hu9) ?_
          refine lv_istore (lv' := [(5, .int (pw_oI (nx1 u))), (4, .int (nI u)), (0, .ref (h 0)), (1, .int (nI t0)), (2, .int (pw_oI (some v))), (3, .int (nI k))]) hx hb dX0_turnWay_29 hl (by decide) rfl (fun ls hl => ?_)
          refine lv_aload_n hx hb dX0_turnWay_31 rfl (lv_at hl 2 rfl) ?_
          refine va_get (D := D) (ci := 0) (v := .ref (h 3)) (C := RX0) (T := TX0) (N := 7) hx hb hts in_X0 hown hK hP 0 rfl rfl 2 (by decide) (hts _ q25) (fun _ h9 => h9) rfl dX0_turnWay_32 ?_
          refine lv_iload hx hb dX0_turnWay_35 (lv_at hl 1 rfl) ?_
          refine lv_iload_n hx hb dX0_turnWay_37 rfl (lv_at hl 4 rfl) ?_
          refine pw_top (y := (nI v)) (rfl) ?_
          refine pw_iast hx hb hK hP (pw_X0_D hj pw_AXi) hS 3 0 rfl rfl hu9 (by decide) dX0_turnWay_38 (fun H locs hP hS => ?_)
          have hP : va_P D pw_cl (pw_X0 d h fa fb (upd gn u (nI v)) gp fr fq fe) H := hP
          refine lv_aload_n hx hb dX0_turnWay_39 rfl (lv_at hl 2 rfl) ?_
          refine va_get (D := D) (ci := 0) (v := .ref (h 4)) (C := RX0) (T := TX0) (N := 7) hx hb hts in_X0 hown hK hP 0 rfl rfl 3 (by decide) (hts _ q26) (fun _ h9 => h9) rfl dX0_turnWay_40 ?_
          refine lv_iload_n hx hb dX0_turnWay_43 rfl (lv_at hl 4 rfl) ?_
          refine pw_top (y := (nI v)) (rfl) ?_
          refine lv_iload hx hb dX0_turnWay_44 (lv_at hl 1 rfl) ?_
          refine pw_iast hx hb hK hP (pw_X0_D hj pw_AXi) hS 4 0 rfl rfl hv9 (by decide) dX0_turnWay_46 (fun H locs hP hS => ?_)
          have hP : va_P D pw_cl (pw_X0 d h fa fb (upd gn u (nI v)) (upd gp v (nI u)) fr fq fe) H := hP
          refine lv_iload hx hb dX0_turnWay_47 (lv_at hl 0 rfl) ?_
          refine lv_istore_n (lv' := [(2, .int (pw_oI (nx1 u))), (5, .int (pw_oI (nx1 u))), (4, .int (nI u)), (0, .ref (h 0)), (1, .int (nI t0)), (3, .int (nI k))]) hx hb dX0_turnWay_49 rfl hl (by decide) rfl (fun ls hl => ?_)
          refine lv_iinc (v := (nI (k + 1))) (lv' := [(3, .int (nI (k + 1))), (2, .int (pw_oI (nx1 u))), (5, .int (pw_oI (nx1 u))), (4, .int (nI u)), (0, .ref (h 0)), (1, .int (nI t0))]) hx hb dX0_turnWay_50 hl (k := 5) rfl (pw_inc _) (by decide) rfl (fun ls hl => ?_)
          refine lv_goto (tgt := 4) hx hb dX0_turnWay_53 (by decide) ?_
          exact ih4 (k + 1) (nx1 u) j (pw_up nx1 u (some v)) (pw_up pv1 v (some u)) _ _ (by omega) (by omega) (by omega) hT2 (pw_En_up hE1 u v) (pw_En_up hE2 v u) hnx _ _ hP hS ls (lv_sub hl [4, 5, 1, 0] rfl)
  exact LOOP4 11 0 (some t0) qe nx pv fn fp (by have := hW.1.1; omega) (by omega) (Nat.le_refl _) hT hEn hEp (fun x e => by rw [← Option.some.inj e]; exact hT.2.1) _ _ hP hS ls (lv_sub hl [2, 3, 1, 0] rfl)
set_option maxHeartbeats 4000000 in
set_option maxRecDepth 100000 in
/-- spread(thing, set) -/
theorem metX0_spread (l : Launch) (D : va_G) (d : ClassId) (h : Nat → Nat) (hj : ∀ i j, i < 7 → j < 7 → h i = h j → i = j) (S : Nat → Bool) (R : Nat → Nat → Bool) (fa fb fn fp fr fq : Nat → Int32) (nx pv : Nat → Option Nat) (root : Nat) (rf : Nat → Option Nat) (qu : Nat → Nat) (qe k th : Nat) (hR : pw_Rep R fa fb) (hM : pw_MI S R nx pv) (hB : pw_BI S R nx pv root rf qu qe) (hk : k < qe) (hth : qu k = th) (hEp : pw_En fp pv) (hEr : pw_En fr rf) (hEq : ∀ i, i < qe → fq i = nI (qu i)) : pw_MU l yX0_spread cX0_spread 4 (some .int) ({ frames := 0, cells := 0, slots := 0, locals := 0 }) D d h fa fb fn fp fr fq (nI qe) [.ref (h 0), .int (nI th), .int (pw_ms S)] (fun r u => (pw_K2 fa fb u ∧ u.2.2.1 = fn ∧ u.2.2.2.1 = fp) ∧ pw_Psp S R nx pv root k th rf qu qe r u.2.2.2.2.1 u.2.2.2.2.2.1 u.2.2.2.2.2.2) := by
  refine Met.ofW (cc := cX0_spread) (maxL := 4) (ret := (some .int)) (by decide) rfl ?_
  intro p e s m args below meth c s₁ B hml hv
  obtain ⟨rfl, hP, hK⟩ := hv
  have hx := B.exec
  have hb := B.bytes
  have hr := B.returns
  have hts := atoms_spec (ws := ws_ yX0_spread cX0_spread 4 (some .int)) B.pre
  have hts : ∀ w ∈ lw_all, w.before _ s = true := fun w h => hts w (List.mem_cons_of_mem _ h)
  have hown : s.vm.findClass RX0 = some m.cls := findClass_of_methodNamed B.named
  have hlocks := B.notSynchronized
  have hS : va_S (pw_AX h 7) s.heap s.heap [] := va_S.rf
  have hP : va_P D pw_cl (pw_X0 d h fa fb fn fp fr fq (nI qe)) s.heap := hP
  have hK : va_K D pw_cl [(d, .int)] s := hK
  have hl := lv_entry ([.ref (h 0), .int (nI th), .int (pw_ms S)]) (n := 4) (Nat.le_of_ble_eq_true rfl)
  rw [lg_entry_eq]
  generalize (lg_sl ([.ref (h 0), .int (nI th), .int (pw_ms S)]) ++ List.replicate (4 - (lg_sl ([.ref (h 0), .int (nI th), .int (pw_ms S)])).length) Slot.unset).toArray = ls at hl ⊢
  have hl : lv_has ls 4 [(0, .ref (h 0)), (1, .int (nI th)), (2, .int (pw_ms S))] := hl
  refine lv_iconst (v := (nI 0)) hx hb dX0_spread_0 (by decide +kernel) ?_
  refine lv_istore_n (lv' := [(3, .int (nI 0)), (0, .ref (h 0)), (1, .int (nI th)), (2, .int (pw_ms S))]) hx hb dX0_spread_1 rfl hl (by decide) rfl (fun ls hl => ?_)
  have LOOP2 : ∀ (n : Nat) (t : Nat) (rf1 : Nat → Option Nat) (qu1 : Nat → Nat) (qe1 : Nat) (gr gq : Nat → Int32), t ≤ 10 → 10 + 1 ≤ t + n → pw_SP S R nx pv root k th rf qu qe t rf1 qu1 qe1 → pw_En gr rf1 → (∀ i, i < qe1 → gq i = nI (qu1 i)) → ∀ (H : Heap) (locs : List Loc), va_P D pw_cl (pw_X0 d h fa fb fn fp gr gq (nI qe1)) H → va_S (pw_AX h 7) s.heap H locs → ∀ (ls : Array Slot), lv_has ls 4 [(0, .ref (h 0)), (1, .int (nI th)), (2, .int (pw_ms S)), (3, .int (nI t))] → W p l e (headSpec (ws_ yX0_spread cX0_spread 4 (some .int)) ({ frames := 0, cells := 0, slots := 0, locals := 0 })).room s m ([.ref (h 0), .int (nI th), .int (pw_ms S)] : List Value).toArray below meth c H locs 0 0 (MQ below (pw_Q0 (fun r u => (pw_K2 fa fb u ∧ u.2.2.1 = fn ∧ u.2.2.2.1 = fp) ∧ pw_Psp S R nx pv root k th rf qu qe r u.2.2.2.2.1 u.2.2.2.2.2.1 u.2.2.2.2.2.2) D d h) ([.ref (h 0), .int (nI th), .int (pw_ms S)] : List Value).toArray s 0 0 (pw_AX h 7)) (F0 m 2 ls []) := by
    intro n
    induction n with
    | zero =>
      intro t rf1 qu1 qe1 gr gq hi hn hSP hE1 hQ1
      exfalso; omega
    | succ n ih2 =>
      intro t rf1 qu1 qe1 gr gq hi hn hSP hE1 hQ1 H locs hP hS ls hl
      have ht9 : th < 10 := by rw [← hth]; exact (hB.2.1 k hk).1
      refine lv_iload_n hx hb dX0_spread_2 rfl (lv_at hl 3 rfl) ?_
      refine lv_bipush (v := (nI 10)) hx hb dX0_spread_3 (by decide +kernel) ?_
      refine lv_icmp_ge (tgt := 81) hx hb dX0_spread_5 (by decide) (fun c5 => ?_) (fun c5 => ?_)
      · have ht : t = 10 := pw_ge c5 hi (by decide)
        refine lv_iconst (v := (-1)) hx hb dX0_spread_81 (by decide +kernel) ?_
        exact pw_ret0 hx hb hr hlocks hP hS rfl (⟨⟨⟨rfl, rfl⟩, rfl, rfl⟩, Or.inl ⟨rf1, qu1, qe1, rfl, hE1, hQ1, rfl, (by rw [ht] at hSP; exact hSP)⟩⟩) dX0_spread_82
      · have ht : t < 10 := pw_lt c5 hi (by decide)
        refine lv_aload_n hx hb dX0_spread_8 rfl (lv_at hl 0 rfl) ?_
        refine va_get (D := D) (ci := 0) (v := .ref (h 1)) (C := RX0) (T := TX0) (N := 7) hx hb hts in_X0 hown hK hP 0 rfl rfl 0 (by decide) (hts _ q23) (fun _ h9 => h9) rfl dX0_spread_9 ?_
        refine lv_iload_n hx hb dX0_spread_12 rfl (lv_at hl 1 rfl) ?_
        refine pw_iald hx hb hK hP 1 0 rfl rfl ht9 (by decide) dX0_spread_13 ?_
        refine pw_top (y := (pw_ms (R th))) (hR.1 th ht9) ?_
        refine lv_iload_n hx hb dX0_spread_14 rfl (lv_at hl 2 rfl) ?_
        refine lv_iand hx hb dX0_spread_15 ?_
        refine pw_top (y := (pw_ms (fun i => R th i && S i))) (pw_ms_and _ _) ?_
        refine lv_iconst (v := 1) hx hb dX0_spread_16 (by decide +kernel) ?_
        refine lv_iload_n hx hb dX0_spread_17 rfl (lv_at hl 3 rfl) ?_
        refine lv_ishl hx hb dX0_spread_18 ?_
        refine pw_top (y := (pw_ms (fun i => i == t))) (pw_ms_one t ht) ?_
        refine lv_iand hx hb dX0_spread_19 ?_
        refine pw_top (y := (pw_ms (fun i => (R th i && S i) && (i == t)))) (pw_ms_and _ _) ?_
        refine lv_if_eq (tgt := 75) hx hb dX0_spread_20 (by decide) (fun c20 => ?_) (fun c20 => ?_)
        · have hz : ¬ (R th t && S t) = true := fun z => (pw_ms_in (fun i => R th i && S i) ht).mpr z c20
          have hy := hSP.skip (fun a b => absurd (by rw [b, a]; rfl) hz)
          refine lv_iinc (v := (nI (t + 1))) (lv' := [(3, .int (nI (t + 1))), (0, .ref (h 0)), (1, .int (nI th)), (2, .int (pw_ms S))]) hx hb dX0_spread_75 hl (k := 3) rfl (pw_inc _) (by decide) rfl (fun ls hl => ?_)
          refine lv_goto (tgt := 2) hx hb dX0_spread_78 (by decide) ?_
          exact ih2 (t + 1) rf1 qu1 qe1 _ _ (by omega) (by omega) hy hE1 hQ1 _ _ hP hS ls (lv_sub hl [1, 2, 3, 0] rfl)
        · have hz : (R th t && S t) = true := (pw_ms_in (fun i => R th i && S i) ht).mp c20
          rw [Bool.and_eq_true] at hz
          refine lv_aload_n hx hb dX0_spread_23 rfl (lv_at hl 0 rfl) ?_
          refine va_get (D := D) (ci := 0) (v := .ref (h 5)) (C := RX0) (T := TX0) (N := 7) hx hb hts in_X0 hown hK hP 0 rfl rfl 4 (by decide) (hts _ q27) (fun _ h9 => h9) rfl dX0_spread_24 ?_
          refine lv_iload_n hx hb dX0_spread_27 rfl (lv_at hl 3 rfl) ?_
          refine pw_iald hx hb hK hP 5 0 rfl rfl ht (by decide) dX0_spread_28 ?_
          refine pw_top (y := (pw_oI (rf1 t))) (hE1 t ht) ?_
          refine lv_if_ge (tgt := 75) hx hb dX0_spread_29 (by decide) (fun c29 => ?_) (fun c29 => ?_)
          · obtain ⟨j, hj9⟩ := pw_oI_ge c29
            have hy := hSP.skip (fun _ _ => by rw [hj9]; simp)
            refine lv_iinc (v := (nI (t + 1))) (lv' := [(3, .int (nI (t + 1))), (0, .ref (h 0)), (1, .int (nI th)), (2, .int (pw_ms S))]) hx hb dX0_spread_75 hl (k := 3) rfl (pw_inc _) (by decide) rfl (fun ls hl => ?_)
            refine lv_goto (tgt := 2) hx hb dX0_spread_78 (by decide) ?_
            exact ih2 (t + 1) rf1 qu1 qe1 _ _ (by omega) (by omega) hy hE1 hQ1 _ _ hP hS ls (lv_sub hl [1, 2, 3, 0] rfl)
          · have hrn : rf1 t = none := pw_oI_nge (fun j e => by have := hSP.1.rlt ht e; omega) c29
            refine lv_aload_n hx hb dX0_spread_32 rfl (lv_at hl 0 rfl) ?_
            refine va_get (D := D) (ci := 0) (v := .ref (h 5)) (C := RX0) (T := TX0) (N := 7) hx hb hts in_X0 hown hK hP 0 rfl rfl 4 (by decide) (hts _ q27) (fun _ h9 => h9) rfl dX0_spread_33 ?_
            refine lv_iload_n hx hb dX0_spread_36 rfl (lv_at hl 3 rfl) ?_
            refine lv_iload_n hx hb dX0_spread_37 rfl (lv_at hl 1 rfl) ?_
            refine pw_iast hx hb hK hP (pw_X0_D hj pw_AXi) hS 5 0 rfl rfl ht (by decide) dX0_spread_38 (fun H locs hP hS => ?_)
            have hP : va_P D pw_cl (pw_X0 d h fa fb fn fp (upd gr t (nI th)) gq (nI qe1)) H := hP
            refine lv_aload_n hx hb dX0_spread_39 rfl (lv_at hl 0 rfl) ?_
            refine va_get (D := D) (ci := 0) (v := .ref (h 4)) (C := RX0) (T := TX0) (N := 7) hx hb hts in_X0 hown hK hP 0 rfl rfl 3 (by decide) (hts _ q26) (fun _ h9 => h9) rfl dX0_spread_40 ?_
            refine lv_iload_n hx hb dX0_spread_43 rfl (lv_at hl 3 rfl) ?_
            refine pw_iald hx hb hK hP 4 0 rfl rfl ht (by decide) dX0_spread_44 ?_
            refine pw_top (y := (pw_oI (pv t))) (hEp t ht) ?_
            refine lv_if_ge (tgt := 50) hx hb dX0_spread_45 (by decide) (fun c45 => ?_) (fun c45 => ?_)
            · obtain ⟨j, hw9⟩ := pw_oI_ge c45
              have hpu := hSP.push hM ht hrn hz.2 hz.1 hw9
              refine lv_aload_n hx hb dX0_spread_50 rfl (lv_at hl 0 rfl) ?_
              refine va_get (D := D) (ci := 0) (v := .ref (h 6)) (C := RX0) (T := TX0) (N := 7) hx hb hts in_X0 hown hK hP 0 rfl rfl 5 (by decide) (hts _ q28) (fun _ h9 => h9) rfl dX0_spread_51 ?_
              refine lv_aload_n hx hb dX0_spread_54 rfl (lv_at hl 0 rfl) ?_
              refine va_get (D := D) (ci := 0) (v := .int (nI qe1)) (C := RX0) (T := TX0) (N := 7) hx hb hts in_X0 hown hK hP 0 rfl rfl 6 (by decide) (hts _ q29) (fun _ h9 => h9) rfl dX0_spread_55 ?_
              refine lv_aload_n hx hb dX0_spread_58 rfl (lv_at hl 0 rfl) ?_
              refine va_get (D := D) (ci := 0) (v := .ref (h 4)) (C := RX0) (T := TX0) (N := 7) hx hb hts in_X0 hown hK hP 0 rfl rfl 3 (by decide) (hts _ q26) (fun _ h9 => h9) rfl dX0_spread_59 ?_
              refine lv_iload_n hx hb dX0_spread_62 rfl (lv_at hl 3 rfl) ?_
              refine pw_iald hx hb hK hP 4 0 rfl rfl ht (by decide) dX0_spread_63 ?_
              refine pw_top (y := (nI j)) ((hEp t ht).trans (by rw [hw9]; rfl)) ?_
              refine pw_iast hx hb hK hP (pw_X0_D hj pw_AXi) hS 6 0 rfl rfl hpu.2 (by decide) dX0_spread_64 (fun H locs hP hS => ?_)
              have hP : va_P D pw_cl (pw_X0 d h fa fb fn fp (upd gr t (nI th)) (upd gq qe1 (nI j)) (nI qe1)) H := hP
              refine lv_aload_n hx hb dX0_spread_65 rfl (lv_at hl 0 rfl) ?_
              refine lv_dup hx hb dX0_spread_66 rfl ?_
              refine va_get (D := D) (ci := 0) (v := .int (nI qe1)) (C := RX0) (T := TX0) (N := 7) hx hb hts in_X0 hown hK hP 0 rfl rfl 6 (by decide) (hts _ q29) (fun _ h9 => h9) rfl dX0_spread_67 ?_
              refine lv_iconst (v := (nI 1)) hx hb dX0_spread_70 (by decide +kernel) ?_
              refine lv_iadd hx hb dX0_spread_71 ?_
              refine pw_top (y := (nI (qe1 + 1))) (nI_add _ _) ?_
              refine va_put (D := D) (ci := 0) (v := .int (nI (qe1 + 1))) (ty := .int) (C := RX0) (T := TX0) (N := 7) hx hb hts in_X0 tyX0 tyX0_ok nmX0 hown hK hP (pw_X0_D hj pw_AXi) hS 0 rfl rfl 6 (by decide) (hts _ q29) (fun _ h9 => h9) rfl (by decide +kernel) rfl rfl (Nat.le_of_ble_eq_true rfl) dX0_spread_72 (fun H locs hP _ hS => ?_)
              have hP : va_P D pw_cl (pw_X0 d h fa fb fn fp (upd gr t (nI th)) (upd gq qe1 (nI j)) (nI (qe1 + 1))) H := hP
              refine lv_iinc (v := (nI (t + 1))) (lv' := [(3, .int (nI (t + 1))), (0, .ref (h 0)), (1, .int (nI th)), (2, .int (pw_ms S))]) hx hb dX0_spread_75 hl (k := 3) rfl (pw_inc _) (by decide) rfl (fun ls hl => ?_)
              refine lv_goto (tgt := 2) hx hb dX0_spread_78 (by decide) ?_
              exact ih2 (t + 1) (pw_up rf1 t (some th)) (pw_up qu1 qe1 j) (qe1 + 1) _ _ (by omega) (by omega) hpu.1 (pw_En_up hE1 t th) (pw_Eq_up hQ1) _ _ hP hS ls (lv_sub hl [1, 2, 3, 0] rfl)
            · have hpn : pv t = none := pw_oI_nge (fun j e => by have := (hM.2 t j ht e).1; omega) c45
              refine lv_iload_n hx hb dX0_spread_48 rfl (lv_at hl 3 rfl) ?_
              exact pw_ret0 hx hb hr hlocks hP hS rfl (⟨⟨⟨rfl, rfl⟩, rfl, rfl⟩, Or.inr ⟨rf1, qu1, qe1, t, t, ht, rfl, hrn, pw_En_up hE1 t th, hSP, hz.2, hz.1, hpn⟩⟩) dX0_spread_49
  exact LOOP2 11 0 rf qu qe fr fq (by omega) (by omega) (by rw [← hth]; exact pw_SP.start hB hk) hEr hEq _ _ hP hS ls (lv_sub hl [1, 2, 3, 0] rfl)
set_option maxHeartbeats 4000000 in
set_option maxRecDepth 100000 in
/-- lengthen(from, set) -/
theorem metX0_lengthen (l : Launch) (D : va_G) (d : ClassId) (h : Nat → Nat) (hj : ∀ i j, i < 7 → j < 7 → h i = h j → i = j) (S : Nat → Bool) (R : Nat → Nat → Bool) (fa fb fn fp fr fq : Nat → Int32) (fe : Int32) (nx pv : Nat → Option Nat) (t : Nat) (hR : pw_Rep R fa fb) (hW : pw_WI S R t nx pv) (ht : t < 10) (hSt : S t = true) (hEn : pw_En fn nx) (hEp : pw_En fp pv) : pw_MU l yX0_lengthen cX0_lengthen 5 (some .boolean) ({ frames := 1, cells := 0, slots := 0, locals := 25 }) D d h fa fb fn fp fr fq fe [.ref (h 0), .int (nI t), .int (pw_ms S)] (fun r u => pw_K2 fa fb u ∧ ∃ b nx2 pv2, r = pw_bI b ∧ pw_En u.2.2.1 nx2 ∧ pw_En u.2.2.2.1 pv2 ∧ pw_LE S R t nx pv b nx2 pv2) := by
  refine Met.ofW (cc := cX0_lengthen) (maxL := 5) (ret := (some .boolean)) (by decide) rfl ?_
  intro p e s m args below meth c s₁ B hml hv
  obtain ⟨rfl, hP, hK⟩ := hv
  have hx := B.exec
  have hb := B.bytes
  have hr := B.returns
  have hts := atoms_spec (ws := ws_ yX0_lengthen cX0_lengthen 5 (some .boolean)) B.pre
  have hts : ∀ w ∈ lw_all, w.before _ s = true := fun w h => hts w (List.mem_cons_of_mem _ h)
  have hown : s.vm.findClass RX0 = some m.cls := findClass_of_methodNamed B.named
  have hlocks := B.notSynchronized
  have hS : va_S (pw_AX h 7) s.heap s.heap [] := va_S.rf
  have hP : va_P D pw_cl (pw_X0 d h fa fb fn fp fr fq fe) s.heap := hP
  have hK : va_K D pw_cl [(d, .int)] s := hK
  have hl := lv_entry ([.ref (h 0), .int (nI t), .int (pw_ms S)]) (n := 5) (Nat.le_of_ble_eq_true rfl)
  rw [lg_entry_eq]
  generalize (lg_sl ([.ref (h 0), .int (nI t), .int (pw_ms S)]) ++ List.replicate (5 - (lg_sl ([.ref (h 0), .int (nI t), .int (pw_ms S)])).length) Slot.unset).toArray = ls at hl ⊢
  have hl : lv_has ls 5 [(0, .ref (h 0)), (1, .int (nI t)), (2, .int (pw_ms S))] := hl
  refine lv_iconst (v := (nI 0)) hx hb dX0_lengthen_0 (by decide +kernel) ?_
  refine lv_istore_n (lv' := [(3, .int (nI 0)), (0, .ref (h 0)), (1, .int (nI t)), (2, .int (pw_ms S))]) hx hb dX0_lengthen_1 rfl hl (by decide) rfl (fun ls hl => ?_)
  have LOOP2 : ∀ (n : Nat) (i : Nat) (gr : Nat → Int32), i ≤ 10 → 10 + 1 ≤ i + n → (∀ j, j < i → gr j = -1) → ∀ (H : Heap) (locs : List Loc), va_P D pw_cl (pw_X0 d h fa fb fn fp gr fq fe) H → va_S (pw_AX h 7) s.heap H locs → ∀ (ls : Array Slot), lv_has ls 5 [(0, .ref (h 0)), (1, .int (nI t)), (2, .int (pw_ms S)), (3, .int (nI i))] → W p l e (headSpec (ws_ yX0_lengthen cX0_lengthen 5 (some .boolean)) ({ frames := 1, cells := 0, slots := 0, locals := 25 })).room s m ([.ref (h 0), .int (nI t), .int (pw_ms S)] : List Value).toArray below meth c H locs 0 0 (MQ below (pw_Q0 (fun r u => pw_K2 fa fb u ∧ ∃ b nx2 pv2, r = pw_bI b ∧ pw_En u.2.2.1 nx2 ∧ pw_En u.2.2.2.1 pv2 ∧ pw_LE S R t nx pv b nx2 pv2) D d h) ([.ref (h 0), .int (nI t), .int (pw_ms S)] : List Value).toArray s 0 0 (pw_AX h 7)) (F0 m 2 ls []) := by
    intro n
    induction n with
    | zero =>
      intro i gr hi hn hm
      exfalso; omega
    | succ n ih2 =>
      intro i gr hi hn hm H locs hP hS ls hl
      refine lv_iload_n hx hb dX0_lengthen_2 rfl (lv_at hl 3 rfl) ?_
      refine lv_bipush (v := (nI 10)) hx hb dX0_lengthen_3 (by decide +kernel) ?_
      refine lv_icmp_ge (tgt := 21) hx hb dX0_lengthen_5 (by decide) (fun c5 => ?_) (fun c5 => ?_)
      · have hi9 : i = 10 := pw_ge c5 hi (by decide)
        obtain ⟨hM, hno, L, K, hF, hL9⟩ := id hW
        refine lv_aload_n hx hb dX0_lengthen_21 rfl (lv_at hl 0 rfl) ?_
        refine va_get (D := D) (ci := 0) (v := .ref (h 6)) (C := RX0) (T := TX0) (N := 7) hx hb hts in_X0 hown hK hP 0 rfl rfl 5 (by decide) (hts _ q28) (fun _ h9 => h9) rfl dX0_lengthen_22 ?_
        refine lv_iconst (v := (nI 0)) hx hb dX0_lengthen_25 (by decide +kernel) ?_
        refine lv_iload_n hx hb dX0_lengthen_26 rfl (lv_at hl 1 rfl) ?_
        refine pw_iast hx hb hK hP (pw_X0_D hj pw_AXi) hS 6 0 rfl rfl (by decide) (by decide) dX0_lengthen_27 (fun H locs hP hS => ?_)
        have hP : va_P D pw_cl (pw_X0 d h fa fb fn fp gr (upd fq 0 (nI t)) fe) H := hP
        refine lv_aload_n hx hb dX0_lengthen_28 rfl (lv_at hl 0 rfl) ?_
        refine lv_iconst (v := (nI 1)) hx hb dX0_lengthen_29 (by decide +kernel) ?_
        refine va_put (D := D) (ci := 0) (v := .int (nI 1)) (ty := .int) (C := RX0) (T := TX0) (N := 7) hx hb hts in_X0 tyX0 tyX0_ok nmX0 hown hK hP (pw_X0_D hj pw_AXi) hS 0 rfl rfl 6 (by decide) (hts _ q29) (fun _ h9 => h9) rfl (by decide +kernel) rfl rfl (Nat.le_of_ble_eq_true rfl) dX0_lengthen_30 (fun H locs hP _ hS => ?_)
        have hP : va_P D pw_cl (pw_X0 d h fa fb fn fp gr (upd fq 0 (nI t)) (nI 1)) H := hP
        refine lv_iconst (v := (nI 0)) hx hb dX0_lengthen_33 (by decide +kernel) ?_
        refine lv_istore_n (lv' := [(3, .int (nI 0)), (0, .ref (h 0)), (1, .int (nI t)), (2, .int (pw_ms S))]) hx hb dX0_lengthen_34 rfl hl (by decide) rfl (fun ls hl => ?_)
        have LOOP35 : ∀ (n : Nat) (k : Nat) (rf : Nat → Option Nat) (qu : Nat → Nat) (qe : Nat) (gr2 gq : Nat → Int32), k ≤ qe → qe ≤ 10 → 10 + 1 ≤ k + n → pw_BI S R nx pv t rf qu qe → pw_En gr2 rf → (∀ i, i < qe → gq i = nI (qu i)) → (∀ i, i < k → ∀ v, v < 10 → S v = true → R (qu i) v = true → rf v ≠ none) → ∀ (H : Heap) (locs : List Loc), va_P D pw_cl (pw_X0 d h fa fb fn fp gr2 gq (nI qe)) H → va_S (pw_AX h 7) s.heap H locs → ∀ (ls : Array Slot), lv_has ls 5 [(0, .ref (h 0)), (1, .int (nI t)), (2, .int (pw_ms S)), (3, .int (nI k))] → W p l e (headSpec (ws_ yX0_lengthen cX0_lengthen 5 (some .boolean)) ({ frames := 1, cells := 0, slots := 0, locals := 25 })).room s m ([.ref (h 0), .int (nI t), .int (pw_ms S)] : List Value).toArray below meth c H locs 0 0 (MQ below (pw_Q0 (fun r u => pw_K2 fa fb u ∧ ∃ b nx2 pv2, r = pw_bI b ∧ pw_En u.2.2.1 nx2 ∧ pw_En u.2.2.2.1 pv2 ∧ pw_LE S R t nx pv b nx2 pv2) D d h) ([.ref (h 0), .int (nI t), .int (pw_ms S)] : List Value).toArray s 0 0 (pw_AX h 7)) (F0 m 35 ls []) := by
          intro n
          induction n with
          | zero =>
            intro k rf qu qe gr2 gq hkq hq10 hn2 hB hEr hEq hall
            exfalso; omega
          | succ n ih35 =>
            intro k rf qu qe gr2 gq hkq hq10 hn2 hB hEr hEq hall H locs hP hS ls hl
            refine lv_iload_n hx hb dX0_lengthen_35 rfl (lv_at hl 3 rfl) ?_
            refine lv_aload_n hx hb dX0_lengthen_36 rfl (lv_at hl 0 rfl) ?_
            refine va_get (D := D) (ci := 0) (v := .int (nI qe)) (C := RX0) (T := TX0) (N := 7) hx hb hts in_X0 hown hK hP 0 rfl rfl 6 (by decide) (hts _ q29) (fun _ h9 => h9) rfl dX0_lengthen_37 ?_
            refine lv_icmp_ge (tgt := 81) hx hb dX0_lengthen_40 (by decide) (fun c40 => ?_) (fun c40 => ?_)
            · have hk9 : k = qe := pw_ge c40 hkq (by omega)
              refine lv_iconst (v := 0) hx hb dX0_lengthen_81 (by decide +kernel) ?_
              exact pw_ret0 hx hb hr hlocks hP hS rfl (⟨⟨rfl, rfl⟩, false, nx, pv, rfl, hEn, hEp, pw_LE.shut hM hno hF hL9 hB (by rw [hk9] at hall; exact hall)⟩) dX0_lengthen_82
            · have hk9 : k < qe := pw_lt c40 hkq (by omega)
              refine lv_iload_n hx hb dX0_lengthen_43 rfl (lv_at hl 3 rfl) ?_
              refine lv_bipush (v := (nI 10)) hx hb dX0_lengthen_44 (by decide +kernel) ?_
              refine lv_icmp_ge (tgt := 81) hx hb dX0_lengthen_46 (by decide) (fun c46 => ?_) (fun c46 => ?_)
              · exact absurd c46 (nI_ge (by omega) (by decide))
              · refine lv_aload_n hx hb dX0_lengthen_49 rfl (lv_at hl 0 rfl) ?_
                refine lv_aload_n hx hb dX0_lengthen_50 rfl (lv_at hl 0 rfl) ?_
                refine va_get (D := D) (ci := 0) (v := .ref (h 6)) (C := RX0) (T := TX0) (N := 7) hx hb hts in_X0 hown hK hP 0 rfl rfl 5 (by decide) (hts _ q28) (fun _ h9 => h9) rfl dX0_lengthen_51 ?_
                refine lv_iload_n hx hb dX0_lengthen_54 rfl (lv_at hl 3 rfl) ?_
                refine pw_iald hx hb hK hP 6 0 rfl rfl (by omega) (by decide) dX0_lengthen_55 ?_
                refine pw_top (y := (nI (qu k))) (hEq k hk9) ?_
                refine lv_iload_n hx hb dX0_lengthen_56 rfl (lv_at hl 2 rfl) ?_
                refine pw_call0 (As := [.int (nI (qu k)), .int (pw_ms S)]) (rest := []) ⟨hx, hb, hml, hown, hts⟩ (metX0_spread l D d h hj S R fa fb fn fp gr2 gq nx pv t rf qu qe k (qu k) hR hM hB hk9 rfl hEp hEr hEq) (cwV 2 hts (lw_V q80 q82 qs3 q13 q83) rfl rfl rfl (by decide +kernel) ⟨Nat.le_of_ble_eq_true rfl, Nat.le_of_ble_eq_true rfl⟩) hK hP [0] rfl pw_AXi hS rfl hl.1 rfl (Nat.le_of_ble_eq_true rfl) dX0_lengthen_57 ⟨Nat.zero_le _, Nat.zero_le _⟩ (fun r1 ga1 gb1 gn1 gp1 gr1 gq1 ge1 H locs er1 hP hk hS => ?_)
                have e1 : ga1 = fa := er1.1.1.1
                have e2 : gb1 = fb := er1.1.1.2
                have e3 : gn1 = fn := er1.1.2.1
                have e4 : gp1 = fp := er1.1.2.2
                have hsp : pw_Psp S R nx pv t k (qu k) rf qu qe r1 gr1 gq1 ge1 := er1.2
                rw [e1, e2, e3, e4] at hP
                refine lv_istore (lv' := [(4, .int r1), (0, .ref (h 0)), (1, .int (nI t)), (2, .int (pw_ms S)), (3, .int (nI k))]) hx hb dX0_lengthen_60 hl (by decide) rfl (fun ls hl => ?_)
                refine lv_iload hx hb dX0_lengthen_62 (lv_at hl 0 rfl) ?_
                refine lv_if_lt (tgt := 75) hx hb dX0_lengthen_64 (by decide) (fun c64 => ?_) (fun c64 => ?_)
                · obtain ⟨rf2, qu2, qe2, hE2, hQ2, hq2, hSP⟩ := hsp.neg c64
                  rw [hq2] at hP
                  refine lv_iinc (v := (nI (k + 1))) (lv' := [(3, .int (nI (k + 1))), (4, .int r1), (0, .ref (h 0)), (1, .int (nI t)), (2, .int (pw_ms S))]) hx hb dX0_lengthen_75 hl (k := 4) rfl (pw_inc _) (by decide) rfl (fun ls hl => ?_)
                  refine lv_goto (tgt := 35) hx hb dX0_lengthen_78 (by decide) ?_
                  exact ih35 (k + 1) rf2 qu2 qe2 _ _ (by have := hSP.2.1; omega) hSP.1.le (by omega) hSP.1 hE2 hQ2 (hSP.all hall) _ _ hP hS ls (lv_sub hl [2, 3, 4, 0] rfl)
                · obtain ⟨rf2, qu2, qe2, t2, tt, ht2, er2, hrn, hE2, hSP, hS2, hR2, hp2⟩ := hsp.pos c64
                  obtain ⟨hway, hTI⟩ := hSP.way hM hF ht2 hrn hS2 hR2 hp2
                  refine lv_aload_n hx hb dX0_lengthen_67 rfl (lv_at hl 1 rfl) ?_
                  refine lv_iload hx hb dX0_lengthen_68 (lv_at hl 0 rfl) ?_
                  refine pw_top (y := (nI t2)) (er2) ?_
                  refine pw_callv (As := [.int (nI t2)]) (rest := []) ⟨hx, hb, hml, hown, hts⟩ (metX0_turnWay l D d h hj S R fa fb fn fp gr1 gq1 ge1 L K t (pw_up rf2 t2 (some (qu k))) qu2 nx pv qe2 t2 hway hF.2.1 hTI hEn hEp hE2) (cwV 1 hts (lw_V q84 q86 qs4 q13 q87) rfl rfl rfl (by decide +kernel) ⟨Nat.le_of_ble_eq_true rfl, Nat.le_of_ble_eq_true rfl⟩) hK hP [0] rfl pw_AXi hS rfl hl.1 rfl (Nat.le_of_ble_eq_true rfl) dX0_lengthen_70 ⟨Nat.zero_le _, Nat.zero_le _⟩ (fun ga3 gb3 gn3 gp3 gr3 gq3 ge3 H locs ev hP hk hS => ?_)
                  obtain ⟨hk3, nx3, pv3, jb3, hE5, hE6, hT3⟩ := ev
                  refine lv_iconst (v := 1) hx hb dX0_lengthen_73 (by decide +kernel) ?_
                  exact pw_ret0 hx hb hr hlocks hP hS rfl (⟨hk3, true, nx3, pv3, rfl, hE5, hE6, pw_LE.way hno hF hL9 ht hT3⟩) dX0_lengthen_74
        exact LOOP35 11 0 (fun _ => none) (fun _ => t) 1 _ _ (by omega) (by omega) (by omega) (pw_BI.start ht hSt (hno t ht (Nat.le_refl t)) rfl) (fun j hj9 => hm j (by omega)) (fun j hj9 => by rw [show j = 0 by omega, pk_us]) (fun j h => absurd h (by omega)) _ _ hP hS ls (lv_sub hl [1, 2, 3, 0] rfl)
      · have hi9 : i < 10 := pw_lt c5 hi (by decide)
        refine lv_aload_n hx hb dX0_lengthen_8 rfl (lv_at hl 0 rfl) ?_
        refine va_get (D := D) (ci := 0) (v := .ref (h 5)) (C := RX0) (T := TX0) (N := 7) hx hb hts in_X0 hown hK hP 0 rfl rfl 4 (by decide) (hts _ q27) (fun _ h9 => h9) rfl dX0_lengthen_9 ?_
        refine lv_iload_n hx hb dX0_lengthen_12 rfl (lv_at hl 3 rfl) ?_
        refine lv_iconst (v := (-1)) hx hb dX0_lengthen_13 (by decide +kernel) ?_
        refine pw_iast hx hb hK hP (pw_X0_D hj pw_AXi) hS 5 0 rfl rfl hi9 (by decide) dX0_lengthen_14 (fun H locs hP hS => ?_)
        have hP : va_P D pw_cl (pw_X0 d h fa fb fn fp (upd gr i (-1)) fq fe) H := hP
        refine lv_iinc (v := (nI (i + 1))) (lv' := [(3, .int (nI (i + 1))), (0, .ref (h 0)), (1, .int (nI t)), (2, .int (pw_ms S))]) hx hb dX0_lengthen_15 hl (k := 3) rfl (pw_inc _) (by decide) rfl (fun ls hl => ?_)
        refine lv_goto (tgt := 2) hx hb dX0_lengthen_18 (by decide) ?_
        exact ih2 (i + 1) _ (by omega) (by omega) (pw_m1 hm) _ _ hP hS ls (lv_sub hl [1, 2, 3, 0] rfl)
  exact LOOP2 11 0 fr (by omega) (by omega) (fun j h => absurd h (by omega)) _ _ hP hS ls (lv_sub hl [1, 2, 3, 0] rfl)
set_option maxHeartbeats 4000000 in
set_option maxRecDepth 100000 in
/-- widthOf(set) -/
theorem metX0_widthOf (l : Launch) (D : va_G) (d : ClassId) (h : Nat → Nat) (hj : ∀ i j, i < 7 → j < 7 → h i = h j → i = j) (S : Nat → Bool) (R : Nat → Nat → Bool) (fa fb fn fp fr fq : Nat → Int32) (fe : Int32) (hR : pw_Rep R fa fb) (hO : pw_Ord R) : pw_MU l yX0_widthOf cX0_widthOf 5 (some .int) ({ frames := 2, cells := 0, slots := 0, locals := 49 }) D d h fa fb fn fp fr fq fe [.ref (h 0), .int (pw_ms S)] (fun r u => pw_K2 fa fb u ∧ ∃ w, r = nI w ∧ pw_Width R S w) := by
  refine Met.ofW (cc := cX0_widthOf) (maxL := 5) (ret := (some .int)) (by decide) rfl ?_
  intro p e s m args below meth c s₁ B hml hv
  obtain ⟨rfl, hP, hK⟩ := hv
  have hx := B.exec
  have hb := B.bytes
  have hr := B.returns
  have hts := atoms_spec (ws := ws_ yX0_widthOf cX0_widthOf 5 (some .int)) B.pre
  have hts : ∀ w ∈ lw_all, w.before _ s = true := fun w h => hts w (List.mem_cons_of_mem _ h)
  have hown : s.vm.findClass RX0 = some m.cls := findClass_of_methodNamed B.named
  have hlocks := B.notSynchronized
  have hS : va_S (pw_AX h 7) s.heap s.heap [] := va_S.rf
  have hP : va_P D pw_cl (pw_X0 d h fa fb fn fp fr fq fe) s.heap := hP
  have hK : va_K D pw_cl [(d, .int)] s := hK
  have hl := lv_entry ([.ref (h 0), .int (pw_ms S)]) (n := 5) (Nat.le_of_ble_eq_true rfl)
  rw [lg_entry_eq]
  generalize (lg_sl ([.ref (h 0), .int (pw_ms S)]) ++ List.replicate (5 - (lg_sl ([.ref (h 0), .int (pw_ms S)])).length) Slot.unset).toArray = ls at hl ⊢
  have hl : lv_has ls 5 [(0, .ref (h 0)), (1, .int (pw_ms S))] := hl
  refine lv_iconst (v := (nI 0)) hx hb dX0_widthOf_0 (by decide +kernel) ?_
  refine lv_istore_n (lv' := [(2, .int (nI 0)), (0, .ref (h 0)), (1, .int (pw_ms S))]) hx hb dX0_widthOf_1 rfl hl (by decide) rfl (fun ls hl => ?_)
  have LOOP2 : ∀ (n : Nat) (i : Nat) (gn gp : Nat → Int32), i ≤ 10 → 10 + 1 ≤ i + n → (∀ j, j < i → gn j = -1) → (∀ j, j < i → gp j = -1) → ∀ (H : Heap) (locs : List Loc), va_P D pw_cl (pw_X0 d h fa fb gn gp fr fq fe) H → va_S (pw_AX h 7) s.heap H locs → ∀ (ls : Array Slot), lv_has ls 5 [(0, .ref (h 0)), (1, .int (pw_ms S)), (2, .int (nI i))] → W p l e (headSpec (ws_ yX0_widthOf cX0_widthOf 5 (some .int)) ({ frames := 2, cells := 0, slots := 0, locals := 49 })).room s m ([.ref (h 0), .int (pw_ms S)] : List Value).toArray below meth c H locs 0 0 (MQ below (pw_Q0 (fun r u => pw_K2 fa fb u ∧ ∃ w, r = nI w ∧ pw_Width R S w) D d h) ([.ref (h 0), .int (pw_ms S)] : List Value).toArray s 0 0 (pw_AX h 7)) (F0 m 2 ls []) := by
    intro n
    induction n with
    | zero =>
      intro i gn gp hi hn hm1 hm2
      exfalso; omega
    | succ n ih2 =>
      intro i gn gp hi hn hm1 hm2 H locs hP hS ls hl
      refine lv_iload_n hx hb dX0_widthOf_2 rfl (lv_at hl 2 rfl) ?_
      refine lv_bipush (v := (nI 10)) hx hb dX0_widthOf_3 (by decide +kernel) ?_
      refine lv_icmp_ge (tgt := 28) hx hb dX0_widthOf_5 (by decide) (fun c5 => ?_) (fun c5 => ?_)
      · have hi9 : i = 10 := pw_ge c5 hi (by decide)
        refine lv_iload_n hx hb dX0_widthOf_28 rfl (lv_at hl 1 rfl) ?_
        refine pw_callS (As := [.int (pw_ms S)]) (rest := []) ⟨hx, hb, hml, hown, hts⟩ (metX0_size l D S) (va_cwS 1 hts (lw_S q57 q58 q13 q59) rfl rfl rfl (by decide +kernel) ⟨Nat.le_of_ble_eq_true rfl, Nat.le_of_ble_eq_true rfl⟩) hK hS rfl hl.1 rfl (Nat.le_of_ble_eq_true rfl) dX0_widthOf_29 ⟨Nat.zero_le _, Nat.zero_le _⟩ (fun r1 H locs er1 hk hS => ?_)
        have hP := pw_keep hP hk
        subst er1
        refine lv_istore_n (lv' := [(2, .int (nI (pw_cn S 10))), (0, .ref (h 0)), (1, .int (pw_ms S))]) hx hb dX0_widthOf_32 rfl hl (by decide) rfl (fun ls hl => ?_)
        refine lv_iconst (v := (nI 0)) hx hb dX0_widthOf_33 (by decide +kernel) ?_
        refine lv_istore_n (lv' := [(3, .int (nI 0)), (2, .int (nI (pw_cn S 10))), (0, .ref (h 0)), (1, .int (pw_ms S))]) hx hb dX0_widthOf_34 rfl hl (by decide) rfl (fun ls hl => ?_)
        have LOOP35 : ∀ (n : Nat) (t k : Nat) (nx pv : Nat → Option Nat) (kn kp kr kq : Nat → Int32) (ke : Int32), t ≤ 10 → 10 + 1 ≤ t + n → pw_WI S R t nx pv → k = pw_cn (pw_fr S nx) 10 → pw_En kn nx → pw_En kp pv → ∀ (H : Heap) (locs : List Loc), va_P D pw_cl (pw_X0 d h fa fb kn kp kr kq ke) H → va_S (pw_AX h 7) s.heap H locs → ∀ (ls : Array Slot), lv_has ls 5 [(0, .ref (h 0)), (1, .int (pw_ms S)), (2, .int (nI k)), (3, .int (nI t))] → W p l e (headSpec (ws_ yX0_widthOf cX0_widthOf 5 (some .int)) ({ frames := 2, cells := 0, slots := 0, locals := 49 })).room s m ([.ref (h 0), .int (pw_ms S)] : List Value).toArray below meth c H locs 0 0 (MQ below (pw_Q0 (fun r u => pw_K2 fa fb u ∧ ∃ w, r = nI w ∧ pw_Width R S w) D d h) ([.ref (h 0), .int (pw_ms S)] : List Value).toArray s 0 0 (pw_AX h 7)) (F0 m 35 ls []) := by
          intro n
          induction n with
          | zero =>
            intro t k nx pv kn kp kr kq ke hi2 hn2 hW hkc hE1 hE2
            exfalso; omega
          | succ n ih35 =>
            intro t k nx pv kn kp kr kq ke hi2 hn2 hW hkc hE1 hE2 H locs hP hS ls hl
            refine lv_iload_n hx hb dX0_widthOf_35 rfl (lv_at hl 3 rfl) ?_
            refine lv_bipush (v := (nI 10)) hx hb dX0_widthOf_36 (by decide +kernel) ?_
            refine lv_icmp_ge (tgt := 76) hx hb dX0_widthOf_38 (by decide) (fun c38 => ?_) (fun c38 => ?_)
            · have ht : t = 10 := pw_ge c38 hi2 (by decide)
              refine lv_iload_n hx hb dX0_widthOf_76 rfl (lv_at hl 2 rfl) ?_
              exact pw_ret0 hx hb hr hlocks hP hS rfl (⟨⟨rfl, rfl⟩, k, rfl, (by rw [ht] at hW; rw [hkc]; exact hW.width hO)⟩) dX0_widthOf_77
            · have ht : t < 10 := pw_lt c38 hi2 (by decide)
              refine lv_iload_n hx hb dX0_widthOf_41 rfl (lv_at hl 1 rfl) ?_
              refine lv_iload_n hx hb dX0_widthOf_42 rfl (lv_at hl 3 rfl) ?_
              refine lv_iushr (v := (((pw_ms S)).toUInt32 >>> (((nI t)).toUInt32 &&& Int32.toUInt32 31)).toInt32) hx hb dX0_widthOf_43 rfl ?_
              refine lv_iconst (v := 1) hx hb dX0_widthOf_44 (by decide +kernel) ?_
              refine lv_iand hx hb dX0_widthOf_45 ?_
              refine pw_top (y := (pw_bI (S t))) (pw_ms_bit S ht) ?_
              refine lv_if_eq (tgt := 70) hx hb dX0_widthOf_46 (by decide) (fun c46 => ?_) (fun c46 => ?_)
              · have hy := hW.skip (pw_bI_0.mp c46)
                refine lv_iinc (v := (nI (t + 1))) (lv' := [(3, .int (nI (t + 1))), (0, .ref (h 0)), (1, .int (pw_ms S)), (2, .int (nI k))]) hx hb dX0_widthOf_70 hl (k := 3) rfl (pw_inc _) (by decide) rfl (fun ls hl => ?_)
                refine lv_goto (tgt := 35) hx hb dX0_widthOf_73 (by decide) ?_
                exact ih35 (t + 1) k nx pv _ _ _ _ _ (by omega) (by omega) hy hkc hE1 hE2 _ _ hP hS ls (lv_sub hl [1, 2, 3, 0] rfl)
              · have hSt : S t = true := pw_bI_n.mp c46
                refine lv_aload_n hx hb dX0_widthOf_49 rfl (lv_at hl 0 rfl) ?_
                refine lv_iload_n hx hb dX0_widthOf_50 rfl (lv_at hl 3 rfl) ?_
                refine lv_iload_n hx hb dX0_widthOf_51 rfl (lv_at hl 1 rfl) ?_
                refine pw_call0 (As := [.int (nI t), .int (pw_ms S)]) (rest := []) ⟨hx, hb, hml, hown, hts⟩ (metX0_lengthen l D d h hj S R fa fb kn kp kr kq ke nx pv t hR hW ht hSt hE1 hE2) (cwV 2 hts (lw_V q76 q78 qs2 q13 q79) rfl rfl rfl (by decide +kernel) ⟨Nat.le_of_ble_eq_true rfl, Nat.le_of_ble_eq_true rfl⟩) hK hP [0] rfl pw_AXi hS rfl hl.1 rfl (Nat.le_of_ble_eq_true rfl) dX0_widthOf_52 ⟨Nat.zero_le _, Nat.zero_le _⟩ (fun r2 ga1 gb1 gn1 gp1 gr1 gq1 ge1 H locs er2 hP hk hS => ?_)
                have e1 : ga1 = fa := er2.1.1
                have e2 : gb1 = fb := er2.1.2
                obtain ⟨b2, nx1, pv1, rfl, hE3, hE4, hLE⟩ := er2.2
                rw [e1, e2] at hP
                refine lv_istore (lv' := [(4, .int (pw_bI b2)), (0, .ref (h 0)), (1, .int (pw_ms S)), (2, .int (nI k)), (3, .int (nI t))]) hx hb dX0_widthOf_55 hl (by decide) rfl (fun ls hl => ?_)
                refine lv_iload_n hx hb dX0_widthOf_57 rfl (lv_at hl 3 rfl) ?_
                refine lv_iload hx hb dX0_widthOf_58 (lv_at hl 0 rfl) ?_
                refine lv_if_eq (tgt := 67) hx hb dX0_widthOf_60 (by decide) (fun c60 => ?_) (fun c60 => ?_)
                · have hc2 : k = pw_cn (pw_fr S nx1) 10 := by rw [hkc, hLE.count hW ht hSt, pw_bI_0.mp c60]; rfl
                  refine lv_iconst (v := (nI 0)) hx hb dX0_widthOf_67 (by decide +kernel) ?_
                  refine lv_isub hx hb dX0_widthOf_68 ?_
                  refine pw_top (y := (nI k)) (pk_sub (Nat.zero_le k)) ?_
                  refine lv_istore_n (lv' := [(2, .int (nI k)), (4, .int (pw_bI b2)), (0, .ref (h 0)), (1, .int (pw_ms S)), (3, .int (nI t))]) hx hb dX0_widthOf_69 rfl hl (by decide) rfl (fun ls hl => ?_)
                  refine lv_iinc (v := (nI (t + 1))) (lv' := [(3, .int (nI (t + 1))), (2, .int (nI k)), (4, .int (pw_bI b2)), (0, .ref (h 0)), (1, .int (pw_ms S))]) hx hb dX0_widthOf_70 hl (k := 4) rfl (pw_inc _) (by decide) rfl (fun ls hl => ?_)
                  refine lv_goto (tgt := 35) hx hb dX0_widthOf_73 (by decide) ?_
                  exact ih35 (t + 1) k nx1 pv1 _ _ _ _ _ (by omega) (by omega) hLE.1 hc2 hE3 hE4 _ _ hP hS ls (lv_sub hl [3, 4, 1, 0] rfl)
                · have hc2 : k = pw_cn (pw_fr S nx1) 10 + 1 := by rw [hkc, hLE.count hW ht hSt, pw_bI_n.mp c60]; rfl
                  refine lv_iconst (v := (nI 1)) hx hb dX0_widthOf_63 (by decide +kernel) ?_
                  refine lv_goto (tgt := 68) hx hb dX0_widthOf_64 (by decide) ?_
                  refine lv_isub hx hb dX0_widthOf_68 ?_
                  refine pw_top (y := (nI (k - 1))) (pk_sub (by omega)) ?_
                  refine lv_istore_n (lv' := [(2, .int (nI (k - 1))), (4, .int (pw_bI b2)), (0, .ref (h 0)), (1, .int (pw_ms S)), (3, .int (nI t))]) hx hb dX0_widthOf_69 rfl hl (by decide) rfl (fun ls hl => ?_)
                  refine lv_iinc (v := (nI (t + 1))) (lv' := [(3, .int (nI (t + 1))), (2, .int (nI (k - 1))), (4, .int (pw_bI b2)), (0, .ref (h 0)), (1, .int (pw_ms S))]) hx hb dX0_widthOf_70 hl (k := 4) rfl (pw_inc _) (by decide) rfl (fun ls hl => ?_)
                  refine lv_goto (tgt := 35) hx hb dX0_widthOf_73 (by decide) ?_
                  exact ih35 (t + 1) (k - 1) nx1 pv1 _ _ _ _ _ (by omega) (by omega) hLE.1 (by omega) hE3 hE4 _ _ hP hS ls (lv_sub hl [3, 4, 1, 0] rfl)
        exact LOOP35 11 0 (pw_cn S 10) (fun _ => none) (fun _ => none) _ _ _ _ _ (by omega) (by omega) (pw_WI.start S R) (pw_cn_congr 10 (fun j _ => by simp [pw_fr])) (fun j hj9 => hm1 j (by omega)) (fun j hj9 => hm2 j (by omega)) _ _ hP hS ls (lv_sub hl [2, 3, 1, 0] rfl)
      · have hi9 : i < 10 := pw_lt c5 hi (by decide)
        refine lv_aload_n hx hb dX0_widthOf_8 rfl (lv_at hl 0 rfl) ?_
        refine va_get (D := D) (ci := 0) (v := .ref (h 3)) (C := RX0) (T := TX0) (N := 7) hx hb hts in_X0 hown hK hP 0 rfl rfl 2 (by decide) (hts _ q25) (fun _ h9 => h9) rfl dX0_widthOf_9 ?_
        refine lv_iload_n hx hb dX0_widthOf_12 rfl (lv_at hl 2 rfl) ?_
        refine lv_iconst (v := (-1)) hx hb dX0_widthOf_13 (by decide +kernel) ?_
        refine pw_iast hx hb hK hP (pw_X0_D hj pw_AXi) hS 3 0 rfl rfl hi9 (by decide) dX0_widthOf_14 (fun H locs hP hS => ?_)
        have hP : va_P D pw_cl (pw_X0 d h fa fb (upd gn i (-1)) gp fr fq fe) H := hP
        refine lv_aload_n hx hb dX0_widthOf_15 rfl (lv_at hl 0 rfl) ?_
        refine va_get (D := D) (ci := 0) (v := .ref (h 4)) (C := RX0) (T := TX0) (N := 7) hx hb hts in_X0 hown hK hP 0 rfl rfl 3 (by decide) (hts _ q26) (fun _ h9 => h9) rfl dX0_widthOf_16 ?_
        refine lv_iload_n hx hb dX0_widthOf_19 rfl (lv_at hl 2 rfl) ?_
        refine lv_iconst (v := (-1)) hx hb dX0_widthOf_20 (by decide +kernel) ?_
        refine pw_iast hx hb hK hP (pw_X0_D hj pw_AXi) hS 4 0 rfl rfl hi9 (by decide) dX0_widthOf_21 (fun H locs hP hS => ?_)
        have hP : va_P D pw_cl (pw_X0 d h fa fb (upd gn i (-1)) (upd gp i (-1)) fr fq fe) H := hP
        refine lv_iinc (v := (nI (i + 1))) (lv' := [(2, .int (nI (i + 1))), (0, .ref (h 0)), (1, .int (pw_ms S))]) hx hb dX0_widthOf_22 hl (k := 2) rfl (pw_inc _) (by decide) rfl (fun ls hl => ?_)
        refine lv_goto (tgt := 2) hx hb dX0_widthOf_25 (by decide) ?_
        exact ih2 (i + 1) _ _ (by omega) (by omega) (pw_m1 hm1) (pw_m1 hm2) _ _ hP hS ls (lv_sub hl [1, 2, 0] rfl)
  exact LOOP2 11 0 fn fp (by omega) (by omega) (fun j h => absurd h (by omega)) (fun j h => absurd h (by omega)) _ _ hP hS ls (lv_sub hl [1, 2, 0] rfl)
set_option maxHeartbeats 4000000 in
set_option maxRecDepth 100000 in
/-- width() -/
theorem metX0_width (l : Launch) (D : va_G) (d : ClassId) (h : Nat → Nat) (hj : ∀ i j, i < 7 → j < 7 → h i = h j → i = j) (R : Nat → Nat → Bool) (fa fb fn fp fr fq : Nat → Int32) (fe : Int32) (hR : pw_Rep R fa fb) (hO : pw_Ord R) : pw_MU l yX0_width cX0_width 1 (some .int) ({ frames := 3, cells := 0, slots := 0, locals := 73 }) D d h fa fb fn fp fr fq fe [.ref (h 0)] (fun r u => pw_K2 fa fb u ∧ ∃ w, r = nI w ∧ pw_Width R (fun _ => true) w) := by
  refine Met.ofW (cc := cX0_width) (maxL := 1) (ret := (some .int)) (by decide) rfl ?_
  intro p e s m args below meth c s₁ B hml hv
  obtain ⟨rfl, hP, hK⟩ := hv
  have hx := B.exec
  have hb := B.bytes
  have hr := B.returns
  have hts := atoms_spec (ws := ws_ yX0_width cX0_width 1 (some .int)) B.pre
  have hts : ∀ w ∈ lw_all, w.before _ s = true := fun w h => hts w (List.mem_cons_of_mem _ h)
  have hown : s.vm.findClass RX0 = some m.cls := findClass_of_methodNamed B.named
  have hlocks := B.notSynchronized
  have hS : va_S (pw_AX h 7) s.heap s.heap [] := va_S.rf
  have hP : va_P D pw_cl (pw_X0 d h fa fb fn fp fr fq fe) s.heap := hP
  have hK : va_K D pw_cl [(d, .int)] s := hK
  have hl := lv_entry ([.ref (h 0)]) (n := 1) (Nat.le_of_ble_eq_true rfl)
  rw [lg_entry_eq]
  generalize (lg_sl ([.ref (h 0)]) ++ List.replicate (1 - (lg_sl ([.ref (h 0)])).length) Slot.unset).toArray = ls at hl ⊢
  have hl : lv_has ls 1 [(0, .ref (h 0))] := hl
  refine lv_aload_n hx hb dX0_width_0 rfl (lv_at hl 0 rfl) ?_
  refine lv_sipush (v := 1023) hx hb dX0_width_1 (by decide +kernel) ?_
  refine pw_top (y := (pw_ms (fun _ => true))) (pw_ms_all) ?_
  refine pw_call0 (As := [.int (pw_ms (fun _ => true))]) (rest := []) ⟨hx, hb, hml, hown, hts⟩ (metX0_widthOf l D d h hj (fun _ => true) R fa fb fn fp fr fq fe hR hO) (cwV 1 hts (lw_V q72 q74 qs1 q13 q75) rfl rfl rfl (by decide +kernel) ⟨Nat.le_of_ble_eq_true rfl, Nat.le_of_ble_eq_true rfl⟩) hK hP [0] rfl pw_AXi hS rfl hl.1 rfl (Nat.le_of_ble_eq_true rfl) dX0_width_4 ⟨Nat.zero_le _, Nat.zero_le _⟩ (fun r1 ga1 gb1 gn1 gp1 gr1 gq1 ge1 H locs er1 hP hk hS => ?_)
  have e1 : ga1 = fa := er1.1.1
  have e2 : gb1 = fb := er1.1.2
  obtain ⟨w1, rfl, hw1⟩ := er1.2
  rw [e1, e2] at hP
  exact pw_ret0 hx hb hr hlocks hP hS rfl (⟨⟨rfl, rfl⟩, w1, rfl, hw1⟩) dX0_width_7
set_option maxHeartbeats 4000000 in
set_option maxRecDepth 100000 in
/-- widthWith(x) -/
theorem metX0_widthWith (l : Launch) (D : va_G) (d : ClassId) (h : Nat → Nat) (hj : ∀ i j, i < 7 → j < 7 → h i = h j → i = j) (R : Nat → Nat → Bool) (fa fb fn fp fr fq : Nat → Int32) (fe : Int32) (x : Int32) (hR : pw_Rep R fa fb) (hO : pw_Ord R) : pw_MU l yX0_widthWith cX0_widthWith 3 (some .int) ({ frames := 3, cells := 0, slots := 0, locals := 73 }) D d h fa fb fn fp fr fq fe [.ref (h 0), .int x] (fun r u => pw_K2 fa fb u ∧ pw_Pt (fun t w => ∃ w0, w = 1 + w0 ∧ pw_Width R (pw_bes R t) w0) x r) := by
  refine Met.ofW (cc := cX0_widthWith) (maxL := 3) (ret := (some .int)) (by decide) rfl ?_
  intro p e s m args below meth c s₁ B hml hv
  obtain ⟨rfl, hP, hK⟩ := hv
  have hx := B.exec
  have hb := B.bytes
  have hr := B.returns
  have hts := atoms_spec (ws := ws_ yX0_widthWith cX0_widthWith 3 (some .int)) B.pre
  have hts : ∀ w ∈ lw_all, w.before _ s = true := fun w h => hts w (List.mem_cons_of_mem _ h)
  have hown : s.vm.findClass RX0 = some m.cls := findClass_of_methodNamed B.named
  have hlocks := B.notSynchronized
  have hS : va_S (pw_AX h 7) s.heap s.heap [] := va_S.rf
  have hP : va_P D pw_cl (pw_X0 d h fa fb fn fp fr fq fe) s.heap := hP
  have hK : va_K D pw_cl [(d, .int)] s := hK
  have hl := lv_entry ([.ref (h 0), .int x]) (n := 3) (Nat.le_of_ble_eq_true rfl)
  rw [lg_entry_eq]
  generalize (lg_sl ([.ref (h 0), .int x]) ++ List.replicate (3 - (lg_sl ([.ref (h 0), .int x])).length) Slot.unset).toArray = ls at hl ⊢
  have hl : lv_has ls 3 [(0, .ref (h 0)), (1, .int x)] := hl
  refine lv_iload_n hx hb dX0_widthWith_0 rfl (lv_at hl 1 rfl) ?_
  refine pw_callS (As := [.int x]) (rest := []) ⟨hx, hb, hml, hown, hts⟩ (metX0_isThing l D x) (va_cwS 1 hts (lw_S q50 q51 q13 q52) rfl rfl rfl (by decide +kernel) ⟨Nat.le_of_ble_eq_true rfl, Nat.le_of_ble_eq_true rfl⟩) hK hS rfl hl.1 rfl (Nat.le_of_ble_eq_true rfl) dX0_widthWith_1 ⟨Nat.zero_le _, Nat.zero_le _⟩ (fun r1 H locs er1 hk hS => ?_)
  have hP := pw_keep hP hk
  subst er1
  refine lv_if_ne (tgt := 9) hx hb dX0_widthWith_4 (by decide) (fun c4 => ?_) (fun c4 => ?_)
  · obtain ⟨t, ht, rfl⟩ := pw_th_of (pw_bI_n.mp c4)
    refine lv_aload_n hx hb dX0_widthWith_9 rfl (lv_at hl 0 rfl) ?_
    refine lv_iload_n hx hb dX0_widthWith_10 rfl (lv_at hl 1 rfl) ?_
    refine pw_callV (As := [.int (nI t)]) (rest := []) ⟨hx, hb, hml, hown, hts⟩ (metX0_besides l D d h R fa fb fn fp fr fq fe t hR ht) (cwV 1 hts (lw_V q92 q94 qs5 q13 q95) rfl rfl rfl (by decide +kernel) ⟨Nat.le_of_ble_eq_true rfl, Nat.le_of_ble_eq_true rfl⟩) hK hP [0] rfl (ci := 0) rfl rfl rfl hS rfl hl.1 rfl (Nat.le_of_ble_eq_true rfl) dX0_widthWith_11 ⟨Nat.zero_le _, Nat.zero_le _⟩ (fun r2 H locs er2 hk hS => ?_)
    have hP := pw_keep hP hk
    subst er2
    refine lv_istore_n (lv' := [(2, .int (pw_ms (pw_bes R t))), (0, .ref (h 0)), (1, .int (nI t))]) hx hb dX0_widthWith_14 rfl hl (by decide) rfl (fun ls hl => ?_)
    refine lv_iconst (v := (nI 1)) hx hb dX0_widthWith_15 (by decide +kernel) ?_
    refine lv_aload_n hx hb dX0_widthWith_16 rfl (lv_at hl 1 rfl) ?_
    refine lv_iload_n hx hb dX0_widthWith_17 rfl (lv_at hl 0 rfl) ?_
    refine pw_call0 (As := [.int (pw_ms (pw_bes R t))]) (rest := [.int (nI 1)]) ⟨hx, hb, hml, hown, hts⟩ (metX0_widthOf l D d h hj (pw_bes R t) R fa fb fn fp fr fq fe hR hO) (cwV 1 hts (lw_V q72 q74 qs1 q13 q75) rfl rfl rfl (by decide +kernel) ⟨Nat.le_of_ble_eq_true rfl, Nat.le_of_ble_eq_true rfl⟩) hK hP [0] rfl pw_AXi hS rfl hl.1 rfl (Nat.le_of_ble_eq_true rfl) dX0_widthWith_18 ⟨Nat.zero_le _, Nat.zero_le _⟩ (fun r3 ga3 gb3 gn3 gp3 gr3 gq3 ge3 H locs er3 hP hk hS => ?_)
    have e1 : ga3 = fa := er3.1.1
    have e2 : gb3 = fb := er3.1.2
    obtain ⟨w1, rfl, hw1⟩ := er3.2
    rw [e1, e2] at hP
    refine lv_iadd hx hb dX0_widthWith_21 ?_
    refine pw_top (y := (nI (1 + w1))) (nI_add _ _) ?_
    exact pw_ret0 hx hb hr hlocks hP hS rfl (⟨⟨rfl, rfl⟩, Or.inr ⟨t, _, ht, rfl, rfl, w1, rfl, hw1⟩⟩) dX0_widthWith_22
  · have ez : pw_th x = false := pw_bI_0.mp c4
    refine lv_iconst (v := (-1)) hx hb dX0_widthWith_7 (by decide +kernel) ?_
    exact pw_ret0 hx hb hr hlocks hP hS rfl (⟨⟨rfl, rfl⟩, Or.inl ⟨ez, rfl⟩⟩) dX0_widthWith_8
set_option maxHeartbeats 4000000 in
set_option maxRecDepth 100000 in
/-- widthWithout(x) -/
theorem metX0_widthWithout (l : Launch) (D : va_G) (d : ClassId) (h : Nat → Nat) (hj : ∀ i j, i < 7 → j < 7 → h i = h j → i = j) (R : Nat → Nat → Bool) (fa fb fn fp fr fq : Nat → Int32) (fe : Int32) (x : Int32) (hR : pw_Rep R fa fb) (hO : pw_Ord R) : pw_MU l yX0_widthWithout cX0_widthWithout 2 (some .int) ({ frames := 3, cells := 0, slots := 0, locals := 73 }) D d h fa fb fn fp fr fq fe [.ref (h 0), .int x] (fun r u => pw_K2 fa fb u ∧ pw_Pt (fun t w => pw_Width R (fun i => !(i == t)) w) x r) := by
  refine Met.ofW (cc := cX0_widthWithout) (maxL := 2) (ret := (some .int)) (by decide) rfl ?_
  intro p e s m args below meth c s₁ B hml hv
  obtain ⟨rfl, hP, hK⟩ := hv
  have hx := B.exec
  have hb := B.bytes
  have hr := B.returns
  have hts := atoms_spec (ws := ws_ yX0_widthWithout cX0_widthWithout 2 (some .int)) B.pre
  have hts : ∀ w ∈ lw_all, w.before _ s = true := fun w h => hts w (List.mem_cons_of_mem _ h)
  have hown : s.vm.findClass RX0 = some m.cls := findClass_of_methodNamed B.named
  have hlocks := B.notSynchronized
  have hS : va_S (pw_AX h 7) s.heap s.heap [] := va_S.rf
  have hP : va_P D pw_cl (pw_X0 d h fa fb fn fp fr fq fe) s.heap := hP
  have hK : va_K D pw_cl [(d, .int)] s := hK
  have hl := lv_entry ([.ref (h 0), .int x]) (n := 2) (Nat.le_of_ble_eq_true rfl)
  rw [lg_entry_eq]
  generalize (lg_sl ([.ref (h 0), .int x]) ++ List.replicate (2 - (lg_sl ([.ref (h 0), .int x])).length) Slot.unset).toArray = ls at hl ⊢
  have hl : lv_has ls 2 [(0, .ref (h 0)), (1, .int x)] := hl
  refine lv_iload_n hx hb dX0_widthWithout_0 rfl (lv_at hl 1 rfl) ?_
  refine pw_callS (As := [.int x]) (rest := []) ⟨hx, hb, hml, hown, hts⟩ (metX0_isThing l D x) (va_cwS 1 hts (lw_S q50 q51 q13 q52) rfl rfl rfl (by decide +kernel) ⟨Nat.le_of_ble_eq_true rfl, Nat.le_of_ble_eq_true rfl⟩) hK hS rfl hl.1 rfl (Nat.le_of_ble_eq_true rfl) dX0_widthWithout_1 ⟨Nat.zero_le _, Nat.zero_le _⟩ (fun r1 H locs er1 hk hS => ?_)
  have hP := pw_keep hP hk
  subst er1
  refine lv_if_eq (tgt := 23) hx hb dX0_widthWithout_4 (by decide) (fun c4 => ?_) (fun c4 => ?_)
  · have ez : pw_th x = false := pw_bI_0.mp c4
    refine lv_iconst (v := (-1)) hx hb dX0_widthWithout_23 (by decide +kernel) ?_
    exact pw_ret0 hx hb hr hlocks hP hS rfl (⟨⟨rfl, rfl⟩, Or.inl ⟨ez, rfl⟩⟩) dX0_widthWithout_24
  · obtain ⟨t, ht, rfl⟩ := pw_th_of (pw_bI_n.mp c4)
    refine lv_aload_n hx hb dX0_widthWithout_7 rfl (lv_at hl 0 rfl) ?_
    refine lv_sipush (v := 1023) hx hb dX0_widthWithout_8 (by decide +kernel) ?_
    refine lv_iconst (v := 1) hx hb dX0_widthWithout_11 (by decide +kernel) ?_
    refine lv_iload_n hx hb dX0_widthWithout_12 rfl (lv_at hl 1 rfl) ?_
    refine lv_ishl hx hb dX0_widthWithout_13 ?_
    refine pw_top (y := (pw_ms (fun i => i == t))) (pw_ms_one t ht) ?_
    refine lv_iconst (v := (-1)) hx hb dX0_widthWithout_14 (by decide +kernel) ?_
    refine lv_ixor hx hb dX0_widthWithout_15 ?_
    refine lv_iand hx hb dX0_widthWithout_16 ?_
    refine pw_top (y := (pw_ms (fun i => !(i == t)))) (pw_ms_not _) ?_
    refine pw_call0 (As := [.int (pw_ms (fun i => !(i == t)))]) (rest := []) ⟨hx, hb, hml, hown, hts⟩ (metX0_widthOf l D d h hj (fun i => !(i == t)) R fa fb fn fp fr fq fe hR hO) (cwV 1 hts (lw_V q72 q74 qs1 q13 q75) rfl rfl rfl (by decide +kernel) ⟨Nat.le_of_ble_eq_true rfl, Nat.le_of_ble_eq_true rfl⟩) hK hP [0] rfl pw_AXi hS rfl hl.1 rfl (Nat.le_of_ble_eq_true rfl) dX0_widthWithout_17 ⟨Nat.zero_le _, Nat.zero_le _⟩ (fun r2 ga2 gb2 gn2 gp2 gr2 gq2 ge2 H locs er2 hP hk hS => ?_)
    have e1 : ga2 = fa := er2.1.1
    have e2 : gb2 = fb := er2.1.2
    obtain ⟨w1, rfl, hw1⟩ := er2.2
    rw [e1, e2] at hP
    refine lv_goto (tgt := 24) hx hb dX0_widthWithout_20 (by decide) ?_
    exact pw_ret0 hx hb hr hlocks hP hS rfl (⟨⟨rfl, rfl⟩, Or.inr ⟨t, _, ht, rfl, rfl, hw1⟩⟩) dX0_widthWithout_24
set_option maxHeartbeats 4000000 in
set_option maxRecDepth 100000 in
/-- widthBeside(x, up) -/
theorem metX0_widthBeside (l : Launch) (D : va_G) (d : ClassId) (h : Nat → Nat) (hj : ∀ i j, i < 7 → j < 7 → h i = h j → i = j) (R : Nat → Nat → Bool) (fa fb fn fp fr fq : Nat → Int32) (fe : Int32) (x : Int32) (up : Bool) (hR : pw_Rep R fa fb) (hO : pw_Ord R) : pw_MU l yX0_widthBeside cX0_widthBeside 3 (some .int) ({ frames := 3, cells := 0, slots := 0, locals := 73 }) D d h fa fb fn fp fr fq fe [.ref (h 0), .int x, .int (pw_bI up)] (fun r u => pw_K2 fa fb u ∧ pw_Pt (fun t w => pw_Width R (pw_sd R t up) w) x r) := by
  refine Met.ofW (cc := cX0_widthBeside) (maxL := 3) (ret := (some .int)) (by decide) rfl ?_
  intro p e s m args below meth c s₁ B hml hv
  obtain ⟨rfl, hP, hK⟩ := hv
  have hx := B.exec
  have hb := B.bytes
  have hr := B.returns
  have hts := atoms_spec (ws := ws_ yX0_widthBeside cX0_widthBeside 3 (some .int)) B.pre
  have hts : ∀ w ∈ lw_all, w.before _ s = true := fun w h => hts w (List.mem_cons_of_mem _ h)
  have hown : s.vm.findClass RX0 = some m.cls := findClass_of_methodNamed B.named
  have hlocks := B.notSynchronized
  have hS : va_S (pw_AX h 7) s.heap s.heap [] := va_S.rf
  have hP : va_P D pw_cl (pw_X0 d h fa fb fn fp fr fq fe) s.heap := hP
  have hK : va_K D pw_cl [(d, .int)] s := hK
  have hl := lv_entry ([.ref (h 0), .int x, .int (pw_bI up)]) (n := 3) (Nat.le_of_ble_eq_true rfl)
  rw [lg_entry_eq]
  generalize (lg_sl ([.ref (h 0), .int x, .int (pw_bI up)]) ++ List.replicate (3 - (lg_sl ([.ref (h 0), .int x, .int (pw_bI up)])).length) Slot.unset).toArray = ls at hl ⊢
  have hl : lv_has ls 3 [(0, .ref (h 0)), (1, .int x), (2, .int (pw_bI up))] := hl
  refine lv_iload_n hx hb dX0_widthBeside_0 rfl (lv_at hl 1 rfl) ?_
  refine pw_callS (As := [.int x]) (rest := []) ⟨hx, hb, hml, hown, hts⟩ (metX0_isThing l D x) (va_cwS 1 hts (lw_S q50 q51 q13 q52) rfl rfl rfl (by decide +kernel) ⟨Nat.le_of_ble_eq_true rfl, Nat.le_of_ble_eq_true rfl⟩) hK hS rfl hl.1 rfl (Nat.le_of_ble_eq_true rfl) dX0_widthBeside_1 ⟨Nat.zero_le _, Nat.zero_le _⟩ (fun r1 H locs er1 hk hS => ?_)
  have hP := pw_keep hP hk
  subst er1
  refine lv_if_ne (tgt := 9) hx hb dX0_widthBeside_4 (by decide) (fun c4 => ?_) (fun c4 => ?_)
  · obtain ⟨t, ht, rfl⟩ := pw_th_of (pw_bI_n.mp c4)
    refine lv_aload_n hx hb dX0_widthBeside_9 rfl (lv_at hl 0 rfl) ?_
    refine lv_iload_n hx hb dX0_widthBeside_10 rfl (lv_at hl 2 rfl) ?_
    refine lv_if_eq (tgt := 23) hx hb dX0_widthBeside_11 (by decide) (fun c11 => ?_) (fun c11 => ?_)
    · refine lv_aload_n hx hb dX0_widthBeside_23 rfl (lv_at hl 0 rfl) ?_
      refine va_get (D := D) (ci := 0) (v := .ref (h 2)) (C := RX0) (T := TX0) (N := 7) hx hb hts in_X0 hown hK hP 0 rfl rfl 1 (by decide) (hts _ q24) (fun _ h9 => h9) rfl dX0_widthBeside_24 ?_
      refine lv_iload_n hx hb dX0_widthBeside_27 rfl (lv_at hl 1 rfl) ?_
      refine pw_iald hx hb hK hP 2 0 rfl rfl ht (by decide) dX0_widthBeside_28 ?_
      refine pw_top (y := (pw_ms (pw_sd R t up))) ((hR.2 t ht).trans (by rw [pw_bI_0.mp c11]; rfl)) ?_
      refine pw_call0 (As := [.int (pw_ms (pw_sd R t up))]) (rest := []) ⟨hx, hb, hml, hown, hts⟩ (metX0_widthOf l D d h hj (pw_sd R t up) R fa fb fn fp fr fq fe hR hO) (cwV 1 hts (lw_V q72 q74 qs1 q13 q75) rfl rfl rfl (by decide +kernel) ⟨Nat.le_of_ble_eq_true rfl, Nat.le_of_ble_eq_true rfl⟩) hK hP [0] rfl pw_AXi hS rfl hl.1 rfl (Nat.le_of_ble_eq_true rfl) dX0_widthBeside_29 ⟨Nat.zero_le _, Nat.zero_le _⟩ (fun r2 ga2 gb2 gn2 gp2 gr2 gq2 ge2 H locs er2 hP hk hS => ?_)
      have e1 : ga2 = fa := er2.1.1
      have e2 : gb2 = fb := er2.1.2
      obtain ⟨w1, rfl, hw1⟩ := er2.2
      rw [e1, e2] at hP
      exact pw_ret0 hx hb hr hlocks hP hS rfl (⟨⟨rfl, rfl⟩, Or.inr ⟨t, _, ht, rfl, rfl, hw1⟩⟩) dX0_widthBeside_32
    · refine lv_aload_n hx hb dX0_widthBeside_14 rfl (lv_at hl 0 rfl) ?_
      refine va_get (D := D) (ci := 0) (v := .ref (h 1)) (C := RX0) (T := TX0) (N := 7) hx hb hts in_X0 hown hK hP 0 rfl rfl 0 (by decide) (hts _ q23) (fun _ h9 => h9) rfl dX0_widthBeside_15 ?_
      refine lv_iload_n hx hb dX0_widthBeside_18 rfl (lv_at hl 1 rfl) ?_
      refine pw_iald hx hb hK hP 1 0 rfl rfl ht (by decide) dX0_widthBeside_19 ?_
      refine pw_top (y := (pw_ms (pw_sd R t up))) ((hR.1 t ht).trans (by rw [pw_bI_n.mp c11]; rfl)) ?_
      refine lv_goto (tgt := 29) hx hb dX0_widthBeside_20 (by decide) ?_
      refine pw_call0 (As := [.int (pw_ms (pw_sd R t up))]) (rest := []) ⟨hx, hb, hml, hown, hts⟩ (metX0_widthOf l D d h hj (pw_sd R t up) R fa fb fn fp fr fq fe hR hO) (cwV 1 hts (lw_V q72 q74 qs1 q13 q75) rfl rfl rfl (by decide +kernel) ⟨Nat.le_of_ble_eq_true rfl, Nat.le_of_ble_eq_true rfl⟩) hK hP [0] rfl pw_AXi hS rfl hl.1 rfl (Nat.le_of_ble_eq_true rfl) dX0_widthBeside_29 ⟨Nat.zero_le _, Nat.zero_le _⟩ (fun r2 ga2 gb2 gn2 gp2 gr2 gq2 ge2 H locs er2 hP hk hS => ?_)
      have e1 : ga2 = fa := er2.1.1
      have e2 : gb2 = fb := er2.1.2
      obtain ⟨w1, rfl, hw1⟩ := er2.2
      rw [e1, e2] at hP
      exact pw_ret0 hx hb hr hlocks hP hS rfl (⟨⟨rfl, rfl⟩, Or.inr ⟨t, _, ht, rfl, rfl, hw1⟩⟩) dX0_widthBeside_32
  · have ez : pw_th x = false := pw_bI_0.mp c4
    refine lv_iconst (v := (-1)) hx hb dX0_widthBeside_7 (by decide +kernel) ?_
    exact pw_ret0 hx hb hr hlocks hP hS rfl (⟨⟨rfl, rfl⟩, Or.inl ⟨ez, rfl⟩⟩) dX0_widthBeside_8
set_option maxHeartbeats 4000000 in
set_option maxRecDepth 100000 in
/-- chosen(x) -/
theorem metX0_chosen (l : Launch) (D : va_G) (d : ClassId) (h : Nat → Nat) (hj : ∀ i j, i < 7 → j < 7 → h i = h j → i = j) (R : Nat → Nat → Bool) (fa fb fn fp fr fq : Nat → Int32) (fe : Int32) (x : Int32) (j : Nat) (hR : pw_Rep R fa fb) (hO : pw_Ord R) (hJ : pw_Best R (fun _ => false) (fun _ => false) false 1024 j) : pw_MU l yX0_chosen cX0_chosen 7 (some .int) ({ frames := 3, cells := 0, slots := 0, locals := 73 }) D d h fa fb fn fp fr fq fe [.ref (h 0), .int x] (fun r u => pw_K2 fa fb u ∧ pw_Pj j x r) := by
  refine Met.ofW (cc := cX0_chosen) (maxL := 7) (ret := (some .int)) (by decide) rfl ?_
  intro p e s m args below meth c s₁ B hml hv
  obtain ⟨rfl, hP, hK⟩ := hv
  have hx := B.exec
  have hb := B.bytes
  have hr := B.returns
  have hts := atoms_spec (ws := ws_ yX0_chosen cX0_chosen 7 (some .int)) B.pre
  have hts : ∀ w ∈ lw_all, w.before _ s = true := fun w h => hts w (List.mem_cons_of_mem _ h)
  have hown : s.vm.findClass RX0 = some m.cls := findClass_of_methodNamed B.named
  have hlocks := B.notSynchronized
  have hS : va_S (pw_AX h 7) s.heap s.heap [] := va_S.rf
  have hP : va_P D pw_cl (pw_X0 d h fa fb fn fp fr fq fe) s.heap := hP
  have hK : va_K D pw_cl [(d, .int)] s := hK
  have hl := lv_entry ([.ref (h 0), .int x]) (n := 7) (Nat.le_of_ble_eq_true rfl)
  rw [lg_entry_eq]
  generalize (lg_sl ([.ref (h 0), .int x]) ++ List.replicate (7 - (lg_sl ([.ref (h 0), .int x])).length) Slot.unset).toArray = ls at hl ⊢
  have hl : lv_has ls 7 [(0, .ref (h 0)), (1, .int x)] := hl
  refine lv_iload_n hx hb dX0_chosen_0 rfl (lv_at hl 1 rfl) ?_
  refine pw_callS (As := [.int x]) (rest := []) ⟨hx, hb, hml, hown, hts⟩ (metX0_isThing l D x) (va_cwS 1 hts (lw_S q50 q51 q13 q52) rfl rfl rfl (by decide +kernel) ⟨Nat.le_of_ble_eq_true rfl, Nat.le_of_ble_eq_true rfl⟩) hK hS rfl hl.1 rfl (Nat.le_of_ble_eq_true rfl) dX0_chosen_1 ⟨Nat.zero_le _, Nat.zero_le _⟩ (fun r1 H locs er1 hk hS => ?_)
  have hP := pw_keep hP hk
  subst er1
  refine lv_if_ne (tgt := 9) hx hb dX0_chosen_4 (by decide) (fun c4 => ?_) (fun c4 => ?_)
  · obtain ⟨t, ht, rfl⟩ := pw_th_of (pw_bI_n.mp c4)
    refine lv_sipush (v := 1023) hx hb dX0_chosen_9 (by decide +kernel) ?_
    refine pw_top (y := (pw_ms (fun _ => true))) (pw_ms_all) ?_
    refine lv_istore_n (lv' := [(2, .int (pw_ms (fun _ => true))), (0, .ref (h 0)), (1, .int (nI t))]) hx hb dX0_chosen_12 rfl hl (by decide) rfl (fun ls hl => ?_)
    refine lv_aload_n hx hb dX0_chosen_13 rfl (lv_at hl 1 rfl) ?_
    refine lv_iload_n hx hb dX0_chosen_14 rfl (lv_at hl 0 rfl) ?_
    refine pw_call0 (As := [.int (pw_ms (fun _ => true))]) (rest := []) ⟨hx, hb, hml, hown, hts⟩ (metX0_widthOf l D d h hj (fun _ => true) R fa fb fn fp fr fq fe hR hO) (cwV 1 hts (lw_V q72 q74 qs1 q13 q75) rfl rfl rfl (by decide +kernel) ⟨Nat.le_of_ble_eq_true rfl, Nat.le_of_ble_eq_true rfl⟩) hK hP [0] rfl pw_AXi hS rfl hl.1 rfl (Nat.le_of_ble_eq_true rfl) dX0_chosen_15 ⟨Nat.zero_le _, Nat.zero_le _⟩ (fun r2 ga2 gb2 gn2 gp2 gr2 gq2 ge2 H locs er2 hP hk hS => ?_)
    have e1 : ga2 = fa := er2.1.1
    have e2 : gb2 = fb := er2.1.2
    obtain ⟨w0, rfl, hw0⟩ := er2.2
    rw [e1, e2] at hP
    refine lv_istore_n (lv' := [(3, .int (nI w0)), (2, .int (pw_ms (fun _ => true))), (0, .ref (h 0)), (1, .int (nI t))]) hx hb dX0_chosen_18 rfl hl (by decide) rfl (fun ls hl => ?_)
    refine lv_bipush (v := (nI 9)) hx hb dX0_chosen_19 (by decide +kernel) ?_
    refine lv_istore (lv' := [(4, .int (nI 9)), (3, .int (nI w0)), (2, .int (pw_ms (fun _ => true))), (0, .ref (h 0)), (1, .int (nI t))]) hx hb dX0_chosen_21 hl (by decide) rfl (fun ls hl => ?_)
    have LOOP23 : ∀ (n : Nat) (c1 : Nat) (left : Nat → Bool) (due : Nat) (kn kp kr kq : Nat → Int32) (ke : Int32), c1 ≤ 10 → c1 + 1 ≤ n → pw_CI R j c1 left due → (t < c1 ∨ pw_tb j t = false) → ∀ (H : Heap) (locs : List Loc), va_P D pw_cl (pw_X0 d h fa fb kn kp kr kq ke) H → va_S (pw_AX h 7) s.heap H locs → ∀ (ls : Array Slot), lv_has ls 7 [(0, .ref (h 0)), (1, .int (nI t)), (2, .int (pw_ms left)), (3, .int (nI due)), (4, .int (pw_dn c1))] → W p l e (headSpec (ws_ yX0_chosen cX0_chosen 7 (some .int)) ({ frames := 3, cells := 0, slots := 0, locals := 73 })).room s m ([.ref (h 0), .int (nI t)] : List Value).toArray below meth c H locs 0 0 (MQ below (pw_Q0 (fun r u => pw_K2 fa fb u ∧ pw_Pj j (nI t) r) D d h) ([.ref (h 0), .int (nI t)] : List Value).toArray s 0 0 (pw_AX h 7)) (F0 m 23 ls []) := by
      intro n
      induction n with
      | zero =>
        intro c1 left due kn kp kr kq ke hc hn hC hB
        exfalso; omega
      | succ n ih23 =>
        intro c1 left due kn kp kr kq ke hc hn hC hB H locs hP hS ls hl
        refine lv_iload hx hb dX0_chosen_23 (lv_at hl 4 rfl) ?_
        refine lv_iload_n hx hb dX0_chosen_25 rfl (lv_at hl 1 rfl) ?_
        refine lv_icmp_lt (tgt := 95) hx hb dX0_chosen_26 (by decide) (fun c26 => ?_) (fun c26 => ?_)
        · have hc9 : c1 ≤ t := (pw_dn_lt hc ht).mp c26
          have hz : pw_tb j t = false := hB.resolve_left (by omega)
          refine lv_iconst (v := 0) hx hb dX0_chosen_95 (by decide +kernel) ?_
          exact pw_ret0 hx hb hr hlocks hP hS rfl (⟨⟨rfl, rfl⟩, Or.inr ⟨t, ht, rfl, (by rw [hz]; rfl)⟩⟩) dX0_chosen_96
        · have hc9 : t < c1 := Nat.not_le.mp (fun z => c26 ((pw_dn_lt hc ht).mpr z))
          obtain ⟨q, rfl⟩ : ∃ q, c1 = q + 1 := ⟨c1 - 1, by omega⟩
          have hq : q < 10 := by omega
          refine lv_iload_n hx hb dX0_chosen_29 rfl (lv_at hl 2 rfl) ?_
          refine lv_iload hx hb dX0_chosen_30 (lv_at hl 4 rfl) ?_
          refine pw_top (y := (nI q)) (rfl) ?_
          refine lv_iushr (v := (((pw_ms left)).toUInt32 >>> (((nI q)).toUInt32 &&& Int32.toUInt32 31)).toInt32) hx hb dX0_chosen_32 rfl ?_
          refine lv_iconst (v := 1) hx hb dX0_chosen_33 (by decide +kernel) ?_
          refine lv_iand hx hb dX0_chosen_34 ?_
          refine pw_top (y := (pw_bI (left q))) (pw_ms_bit left hq) ?_
          refine lv_if_eq (tgt := 89) hx hb dX0_chosen_35 (by decide) (fun c35 => ?_) (fun c35 => ?_)
          · have hy := hC.out hq (pw_bI_0.mp c35)
            refine lv_iinc (v := (pw_dn q)) (lv' := [(4, .int (pw_dn q)), (0, .ref (h 0)), (1, .int (nI t)), (2, .int (pw_ms left)), (3, .int (nI due))]) hx hb dX0_chosen_89 hl (k := 4) rfl (pw_dn_s q) (by decide) rfl (fun ls hl => ?_)
            refine lv_goto (tgt := 23) hx hb dX0_chosen_92 (by decide) ?_
            exact ih23 q left due _ _ _ _ _ (by omega) (by omega) hy.1 (pw_c9 hc9 hy.2) _ _ hP hS ls (lv_sub hl [1, 2, 3, 4, 0] rfl)
          · have hlq := pw_bI_n.mp c35
            have hb1 := hC.2.2.2.1.le
            refine lv_iload_n hx hb dX0_chosen_38 rfl (lv_at hl 2 rfl) ?_
            refine lv_iconst (v := 1) hx hb dX0_chosen_39 (by decide +kernel) ?_
            refine lv_iload hx hb dX0_chosen_40 (lv_at hl 4 rfl) ?_
            refine pw_top (y := (nI q)) (rfl) ?_
            refine lv_ishl hx hb dX0_chosen_42 ?_
            refine pw_top (y := (pw_ms (fun i => i == q))) (pw_ms_one q hq) ?_
            refine lv_iconst (v := (-1)) hx hb dX0_chosen_43 (by decide +kernel) ?_
            refine lv_ixor hx hb dX0_chosen_44 ?_
            refine lv_iand hx hb dX0_chosen_45 ?_
            refine pw_top (y := (pw_ms (fun i => left i && !(i == q)))) (pw_ms_andn _ _) ?_
            refine lv_istore (lv' := [(5, .int (pw_ms (fun i => left i && !(i == q)))), (0, .ref (h 0)), (1, .int (nI t)), (2, .int (pw_ms left)), (3, .int (nI due)), (4, .int (pw_dn (q + 1)))]) hx hb dX0_chosen_46 hl (by decide) rfl (fun ls hl => ?_)
            refine lv_aload_n hx hb dX0_chosen_48 rfl (lv_at hl 1 rfl) ?_
            refine lv_iload hx hb dX0_chosen_49 (lv_at hl 0 rfl) ?_
            refine pw_call0 (As := [.int (pw_ms (fun i => left i && !(i == q)))]) (rest := []) ⟨hx, hb, hml, hown, hts⟩ (metX0_widthOf l D d h hj (fun i => left i && !(i == q)) R fa fb kn kp kr kq ke hR hO) (cwV 1 hts (lw_V q72 q74 qs1 q13 q75) rfl rfl rfl (by decide +kernel) ⟨Nat.le_of_ble_eq_true rfl, Nat.le_of_ble_eq_true rfl⟩) hK hP [0] rfl pw_AXi hS rfl hl.1 rfl (Nat.le_of_ble_eq_true rfl) dX0_chosen_51 ⟨Nat.zero_le _, Nat.zero_le _⟩ (fun r3 ga3 gb3 gn3 gp3 gr3 gq3 ge3 H locs er3 hP hk hS => ?_)
            have e1 : ga3 = fa := er3.1.1
            have e2 : gb3 = fb := er3.1.2
            obtain ⟨w1, rfl, hw1⟩ := er3.2
            rw [e1, e2] at hP
            refine lv_istore (lv' := [(6, .int (nI w1)), (5, .int (pw_ms (fun i => left i && !(i == q)))), (0, .ref (h 0)), (1, .int (nI t)), (2, .int (pw_ms left)), (3, .int (nI due)), (4, .int (pw_dn (q + 1)))]) hx hb dX0_chosen_54 hl (by decide) rfl (fun ls hl => ?_)
            refine lv_iload hx hb dX0_chosen_56 (lv_at hl 0 rfl) ?_
            refine lv_iload_n hx hb dX0_chosen_58 rfl (lv_at hl 5 rfl) ?_
            refine lv_icmp_ne (tgt := 68) hx hb dX0_chosen_59 (by decide) (fun c59 => ?_) (fun c59 => ?_)
            · have hne : w1 ≠ due := fun z => c59 (by rw [z])
              have htk := hC.take hO hJ hq hlq hw1 hne
              refine lv_iload hx hb dX0_chosen_68 (lv_at hl 6 rfl) ?_
              refine pw_top (y := (nI q)) (rfl) ?_
              refine lv_iload_n hx hb dX0_chosen_70 rfl (lv_at hl 3 rfl) ?_
              refine lv_icmp_ne (tgt := 76) hx hb dX0_chosen_71 (by decide) (fun c71 => ?_) (fun c71 => ?_)
              · have hqt : t < q := by have : q ≠ t := fun z => c71 (by rw [z]); omega
                refine lv_iload hx hb dX0_chosen_76 (lv_at hl 1 rfl) ?_
                refine lv_aload_n hx hb dX0_chosen_78 rfl (lv_at hl 2 rfl) ?_
                refine lv_iload hx hb dX0_chosen_79 (lv_at hl 6 rfl) ?_
                refine pw_top (y := (nI q)) (rfl) ?_
                refine pw_callV (As := [.int (nI q)]) (rest := [.int (pw_ms (fun i => left i && !(i == q)))]) ⟨hx, hb, hml, hown, hts⟩ (metX0_besides l D d h R fa fb gn3 gp3 gr3 gq3 ge3 q hR hq) (cwV 1 hts (lw_V q92 q94 qs5 q13 q95) rfl rfl rfl (by decide +kernel) ⟨Nat.le_of_ble_eq_true rfl, Nat.le_of_ble_eq_true rfl⟩) hK hP [0] rfl (ci := 0) rfl rfl rfl hS rfl hl.1 rfl (Nat.le_of_ble_eq_true rfl) dX0_chosen_81 ⟨Nat.zero_le _, Nat.zero_le _⟩ (fun r4 H locs er4 hk hS => ?_)
                have hP := pw_keep hP hk
                subst er4
                refine lv_iand hx hb dX0_chosen_84 ?_
                refine pw_top (y := (pw_ms (fun i => (left i && !(i == q)) && pw_bes R q i))) (pw_ms_and _ _) ?_
                refine lv_istore_n (lv' := [(2, .int (pw_ms (fun i => (left i && !(i == q)) && pw_bes R q i))), (6, .int (nI w1)), (5, .int (pw_ms (fun i => left i && !(i == q)))), (0, .ref (h 0)), (1, .int (nI t)), (3, .int (nI due)), (4, .int (pw_dn (q + 1)))]) hx hb dX0_chosen_85 rfl hl (by decide) rfl (fun ls hl => ?_)
                refine lv_iinc (v := (nI (due - 1))) (lv' := [(3, .int (nI (due - 1))), (2, .int (pw_ms (fun i => (left i && !(i == q)) && pw_bes R q i))), (6, .int (nI w1)), (5, .int (pw_ms (fun i => left i && !(i == q)))), (0, .ref (h 0)), (1, .int (nI t)), (4, .int (pw_dn (q + 1)))]) hx hb dX0_chosen_86 hl (k := 5) rfl (pw_decd htk.2.1) (by decide) rfl (fun ls hl => ?_)
                refine lv_iinc (v := (pw_dn q)) (lv' := [(4, .int (pw_dn q)), (3, .int (nI (due - 1))), (2, .int (pw_ms (fun i => (left i && !(i == q)) && pw_bes R q i))), (6, .int (nI w1)), (5, .int (pw_ms (fun i => left i && !(i == q)))), (0, .ref (h 0)), (1, .int (nI t))]) hx hb dX0_chosen_89 hl (k := 6) rfl (pw_dn_s q) (by decide) rfl (fun ls hl => ?_)
                refine lv_goto (tgt := 23) hx hb dX0_chosen_92 (by decide) ?_
                exact ih23 q (fun i => (left i && !(i == q)) && pw_bes R q i) (due - 1) _ _ _ _ _ (by omega) (by omega) htk.2.2 (Or.inl hqt) _ _ hP hS ls (lv_sub hl [5, 6, 2, 1, 0] rfl)
              · have hqt : q = t := (nI_eq (by omega) (by omega)).mp c71
                refine lv_iconst (v := 1) hx hb dX0_chosen_74 (by decide +kernel) ?_
                exact pw_ret0 hx hb hr hlocks hP hS rfl (⟨⟨rfl, rfl⟩, Or.inr ⟨t, ht, rfl, (by rw [← hqt, htk.1]; rfl)⟩⟩) dX0_chosen_75
            · have heq : w1 = due := (nI_eq (by have := hw1.le; omega) (by omega)).mp c59
              have hy := hC.leave hO hJ hq hlq (by rw [heq] at hw1; exact hw1)
              refine lv_iload hx hb dX0_chosen_62 (lv_at hl 1 rfl) ?_
              refine lv_istore_n (lv' := [(2, .int (pw_ms (fun i => left i && !(i == q)))), (6, .int (nI w1)), (5, .int (pw_ms (fun i => left i && !(i == q)))), (0, .ref (h 0)), (1, .int (nI t)), (3, .int (nI due)), (4, .int (pw_dn (q + 1)))]) hx hb dX0_chosen_64 rfl hl (by decide) rfl (fun ls hl => ?_)
              refine lv_goto (tgt := 89) hx hb dX0_chosen_65 (by decide) ?_
              refine lv_iinc (v := (pw_dn q)) (lv' := [(4, .int (pw_dn q)), (2, .int (pw_ms (fun i => left i && !(i == q)))), (6, .int (nI w1)), (5, .int (pw_ms (fun i => left i && !(i == q)))), (0, .ref (h 0)), (1, .int (nI t)), (3, .int (nI due))]) hx hb dX0_chosen_89 hl (k := 6) rfl (pw_dn_s q) (by decide) rfl (fun ls hl => ?_)
              refine lv_goto (tgt := 23) hx hb dX0_chosen_92 (by decide) ?_
              exact ih23 q (fun i => left i && !(i == q)) due _ _ _ _ _ (by omega) (by omega) hy.1 (pw_c9 hc9 hy.2) _ _ hP hS ls (lv_sub hl [4, 5, 1, 6, 0] rfl)
    exact LOOP23 11 10 (fun _ => true) w0 _ _ _ _ _ (by omega) (by omega) (pw_CI.start hO hJ hw0) (Or.inl ht) _ _ hP hS ls (lv_sub hl [3, 4, 2, 1, 0] rfl)
  · have ez : pw_th x = false := pw_bI_0.mp c4
    refine lv_iconst (v := (-1)) hx hb dX0_chosen_7 (by decide +kernel) ?_
    exact pw_ret0 hx hb hr hlocks hP hS rfl (⟨⟨rfl, rfl⟩, Or.inl ⟨ez, rfl⟩⟩) dX0_chosen_8
end
section
/-! ===== the constructors ===== -/
theorem pw_same {D : va_G} {cl : List vw_C} {tys : List (ClassId × FieldType)} {s : State} (hK : va_K D cl tys s) {i j : Nat} {c1 c2 : ClassId} (h1 : tys[i]? = some (c1, .int)) (h2 : tys[j]? = some (c2, .int)) : c1 = c2 := by
  have g1 : s.vm.findClass ("[" ++ (FieldType.int).toString) = some c1 := (hK.2 i _ h1).2
  have g2 : s.vm.findClass ("[" ++ (FieldType.int).toString) = some c2 := (hK.2 j _ h2).2
  exact Option.some.inj (g1.symm.trans g2)
set_option maxHeartbeats 4000000 in
set_option maxRecDepth 100000 in
/-- the constructor: 6 new arrays -/
theorem metX0_init (l : Launch) (D : va_G) (h0 sz : Nat) : Met l yX0_init (ws_ yX0_init cX0_init 1 none) ({ frames := 1, cells := 6, slots := 60, locals := 12 }) (va_Pc [.ref h0] (fun U => U.heap.size = sz ∧ va_P D pw_cl [(h0, .inr (0, [.null, .null, .null, .null, .null, .null, .int 0]))] U.heap ∧ va_K D pw_cl [] U ∧ va_D (fun _ => True) [(h0, .inr (0, [.null, .null, .null, .null, .null, .null, .int 0]))])) (va_Qv (fun u : ClassId × (Nat → Nat) => u.2 0 = h0) (fun u t => va_P D pw_cl (pw_X0 u.1 u.2 (fun _ => 0) (fun _ => 0) (fun _ => 0) (fun _ => 0) (fun _ => 0) (fun _ => 0) 0) t.heap ∧ va_K D pw_cl [(u.1, .int)] t ∧ va_D (va_A [(h0, .inr (0, [.null, .null, .null, .null, .null, .null, .int 0]))] sz) (pw_X0 u.1 u.2 (fun _ => 0) (fun _ => 0) (fun _ => 0) (fun _ => 0) (fun _ => 0) (fun _ => 0) 0)) (va_A [(h0, .inr (0, [.null, .null, .null, .null, .null, .null, .int 0]))] sz)) 6 60 (va_A [(h0, .inr (0, [.null, .null, .null, .null, .null, .null, .int 0]))] sz) := by
  refine Met.ofW (cc := cX0_init) (maxL := 1) (ret := none) (by decide) rfl ?_
  intro p e s m args below meth c s₁ B hml hv
  obtain ⟨rfl, hsz, hP, hK, hD0⟩ := hv
  have hx := B.exec
  have hb := B.bytes
  have hr := B.returns
  have hts := atoms_spec (ws := ws_ yX0_init cX0_init 1 none) B.pre
  have hts : ∀ w ∈ lw_all, w.before _ s = true := fun w h => hts w (List.mem_cons_of_mem _ h)
  have hown : s.vm.findClass RX0 = some m.cls := findClass_of_methodNamed B.named
  have hlocks := B.notSynchronized
  have hin : meth.name = "<init>" := (name_of_methodNamed B.named B.method).1
  subst hsz
  have hD := hD0.self (sz := s.heap.size)
  generalize hAe : va_A [(h0, .inr (0, [.null, .null, .null, .null, .null, .null, .int 0]))] s.heap.size = A at hD ⊢
  have hA : ∀ q : Nat, s.heap.size ≤ q → A q := fun q h => by rw [← hAe]; exact Or.inr h
  have hS : va_S A s.heap s.heap [] := va_S.rf
  have hP : va_P D pw_cl [(h0, .inr (0, [.null, .null, .null, .null, .null, .null, .int 0]))] s.heap := hP
  have hl := lv_entry ([.ref h0]) (n := 1) (Nat.le_of_ble_eq_true rfl)
  rw [lg_entry_eq]
  generalize (lg_sl ([.ref h0]) ++ List.replicate (1 - (lg_sl ([.ref h0])).length) Slot.unset).toArray = ls at hl ⊢
  have hl : lv_has ls 1 [(0, .ref h0)] := hl
  refine lv_aload_n hx hb dX0_init_0 rfl (lv_at hl 0 rfl) ?_
  refine W.objInit hx hb hown (hts _ q20) (hts _ q21) (hts _ q22) rfl (by rw [hml]; exact hl.1) rfl dX0_init_1 (Nat.le_of_ble_eq_true rfl) (Nat.le_of_ble_eq_true rfl) ?_
  refine W.eq (g2 := F0 m 4 ls []) rfl ?_
  refine lv_aload_n hx hb dX0_init_4 rfl (lv_at hl 0 rfl) ?_
  refine lv_bipush (v := nI 10) hx hb dX0_init_5 (by decide +kernel) ?_
  refine va_newa (atype := .int) (ty := .int) (N' := 10) (a0 := (10, .inl (fun _ => 0))) hx hb (hts _ q45) rfl hK hP hD hS hA (fun _ => rfl) (by decide) (by decide) (by decide) (Nat.le_of_ble_eq_true rfl) (Nat.le_of_ble_eq_true rfl) dX0_init_7 (fun q1 d H hK hP hD hS => ?_)
  have hP : va_P D pw_cl [(h0, .inr (0, [.null, .null, .null, .null, .null, .null, .int 0])), (q1, .inl (d, 10, .inl (fun _ => 0)))] H := hP
  have hD : va_D A [(h0, .inr (0, [.null, .null, .null, .null, .null, .null, .int 0])), (q1, .inl (d, 10, .inl (fun _ => 0)))] := hD
  have hK : va_K D pw_cl [(d, .int)] s := hK
  refine W.widen (k := 1) (n := 10) (Nat.le_of_ble_eq_true rfl) (Nat.le_of_ble_eq_true rfl) ?_
  refine va_putF (D := D) (ci := 0) (v := .ref q1) (ty := .array .int) (C := RX0) (T := TX0) (N := 7) hx hb hts in_X0 tyX0 tyX0_ok nmX0 hown hK hP hD hS 0 rfl rfl 0 (by decide) (hts _ q23) (fun _ h9 => h9) rfl hin rfl (by decide +kernel) rfl rfl (Nat.le_of_ble_eq_true rfl) dX0_init_9 (fun H locs hP hD hS => ?_)
  have hP : va_P D pw_cl [(h0, .inr (0, [.ref q1, .null, .null, .null, .null, .null, .int 0])), (q1, .inl (d, 10, .inl (fun _ => 0)))] H := hP
  have hD : va_D A [(h0, .inr (0, [.ref q1, .null, .null, .null, .null, .null, .int 0])), (q1, .inl (d, 10, .inl (fun _ => 0)))] := hD
  refine lv_aload_n hx hb dX0_init_12 rfl (lv_at hl 0 rfl) ?_
  refine lv_bipush (v := nI 10) hx hb dX0_init_13 (by decide +kernel) ?_
  refine va_newa (atype := .int) (ty := .int) (N' := 10) (a0 := (10, .inl (fun _ => 0))) hx hb (hts _ q45) rfl hK hP hD hS hA (fun _ => rfl) (by decide) (by decide) (by decide) (Nat.le_of_ble_eq_true rfl) (Nat.le_of_ble_eq_true rfl) dX0_init_15 (fun q2 e1 H hK hP hD hS => ?_)
  have hP : va_P D pw_cl [(h0, .inr (0, [.ref q1, .null, .null, .null, .null, .null, .int 0])), (q1, .inl (d, 10, .inl (fun _ => 0))), (q2, .inl (e1, 10, .inl (fun _ => 0)))] H := hP
  have hD : va_D A [(h0, .inr (0, [.ref q1, .null, .null, .null, .null, .null, .int 0])), (q1, .inl (d, 10, .inl (fun _ => 0))), (q2, .inl (e1, 10, .inl (fun _ => 0)))] := hD
  have hK : va_K D pw_cl [(d, .int), (e1, .int)] s := hK
  have ed : e1 = d := pw_same hK (i := 1) (j := 0) rfl rfl
  rw [ed] at hP hD
  have hK := hK.sub (tys' := [(d, .int)]) [0] rfl
  refine W.widen (k := 2) (n := 20) (Nat.le_of_ble_eq_true rfl) (Nat.le_of_ble_eq_true rfl) ?_
  refine va_putF (D := D) (ci := 0) (v := .ref q2) (ty := .array .int) (C := RX0) (T := TX0) (N := 7) hx hb hts in_X0 tyX0 tyX0_ok nmX0 hown hK hP hD hS 0 rfl rfl 1 (by decide) (hts _ q24) (fun _ h9 => h9) rfl hin rfl (by decide +kernel) rfl rfl (Nat.le_of_ble_eq_true rfl) dX0_init_17 (fun H locs hP hD hS => ?_)
  have hP : va_P D pw_cl [(h0, .inr (0, [.ref q1, .ref q2, .null, .null, .null, .null, .int 0])), (q1, .inl (d, 10, .inl (fun _ => 0))), (q2, .inl (d, 10, .inl (fun _ => 0)))] H := hP
  have hD : va_D A [(h0, .inr (0, [.ref q1, .ref q2, .null, .null, .null, .null, .int 0])), (q1, .inl (d, 10, .inl (fun _ => 0))), (q2, .inl (d, 10, .inl (fun _ => 0)))] := hD
  refine lv_aload_n hx hb dX0_init_20 rfl (lv_at hl 0 rfl) ?_
  refine lv_bipush (v := nI 10) hx hb dX0_init_21 (by decide +kernel) ?_
  refine va_newa (atype := .int) (ty := .int) (N' := 10) (a0 := (10, .inl (fun _ => 0))) hx hb (hts _ q45) rfl hK hP hD hS hA (fun _ => rfl) (by decide) (by decide) (by decide) (Nat.le_of_ble_eq_true rfl) (Nat.le_of_ble_eq_true rfl) dX0_init_23 (fun q3 e2 H hK hP hD hS => ?_)
  have hP : va_P D pw_cl [(h0, .inr (0, [.ref q1, .ref q2, .null, .null, .null, .null, .int 0])), (q1, .inl (d, 10, .inl (fun _ => 0))), (q2, .inl (d, 10, .inl (fun _ => 0))), (q3, .inl (e2, 10, .inl (fun _ => 0)))] H := hP
  have hD : va_D A [(h0, .inr (0, [.ref q1, .ref q2, .null, .null, .null, .null, .int 0])), (q1, .inl (d, 10, .inl (fun _ => 0))), (q2, .inl (d, 10, .inl (fun _ => 0))), (q3, .inl (e2, 10, .inl (fun _ => 0)))] := hD
  have hK : va_K D pw_cl [(d, .int), (e2, .int)] s := hK
  have ed : e2 = d := pw_same hK (i := 1) (j := 0) rfl rfl
  rw [ed] at hP hD
  have hK := hK.sub (tys' := [(d, .int)]) [0] rfl
  refine W.widen (k := 3) (n := 30) (Nat.le_of_ble_eq_true rfl) (Nat.le_of_ble_eq_true rfl) ?_
  refine va_putF (D := D) (ci := 0) (v := .ref q3) (ty := .array .int) (C := RX0) (T := TX0) (N := 7) hx hb hts in_X0 tyX0 tyX0_ok nmX0 hown hK hP hD hS 0 rfl rfl 2 (by decide) (hts _ q25) (fun _ h9 => h9) rfl hin rfl (by decide +kernel) rfl rfl (Nat.le_of_ble_eq_true rfl) dX0_init_25 (fun H locs hP hD hS => ?_)
  have hP : va_P D pw_cl [(h0, .inr (0, [.ref q1, .ref q2, .ref q3, .null, .null, .null, .int 0])), (q1, .inl (d, 10, .inl (fun _ => 0))), (q2, .inl (d, 10, .inl (fun _ => 0))), (q3, .inl (d, 10, .inl (fun _ => 0)))] H := hP
  have hD : va_D A [(h0, .inr (0, [.ref q1, .ref q2, .ref q3, .null, .null, .null, .int 0])), (q1, .inl (d, 10, .inl (fun _ => 0))), (q2, .inl (d, 10, .inl (fun _ => 0))), (q3, .inl (d, 10, .inl (fun _ => 0)))] := hD
  refine lv_aload_n hx hb dX0_init_28 rfl (lv_at hl 0 rfl) ?_
  refine lv_bipush (v := nI 10) hx hb dX0_init_29 (by decide +kernel) ?_
  refine va_newa (atype := .int) (ty := .int) (N' := 10) (a0 := (10, .inl (fun _ => 0))) hx hb (hts _ q45) rfl hK hP hD hS hA (fun _ => rfl) (by decide) (by decide) (by decide) (Nat.le_of_ble_eq_true rfl) (Nat.le_of_ble_eq_true rfl) dX0_init_31 (fun q4 e3 H hK hP hD hS => ?_)
  have hP : va_P D pw_cl [(h0, .inr (0, [.ref q1, .ref q2, .ref q3, .null, .null, .null, .int 0])), (q1, .inl (d, 10, .inl (fun _ => 0))), (q2, .inl (d, 10, .inl (fun _ => 0))), (q3, .inl (d, 10, .inl (fun _ => 0))), (q4, .inl (e3, 10, .inl (fun _ => 0)))] H := hP
  have hD : va_D A [(h0, .inr (0, [.ref q1, .ref q2, .ref q3, .null, .null, .null, .int 0])), (q1, .inl (d, 10, .inl (fun _ => 0))), (q2, .inl (d, 10, .inl (fun _ => 0))), (q3, .inl (d, 10, .inl (fun _ => 0))), (q4, .inl (e3, 10, .inl (fun _ => 0)))] := hD
  have hK : va_K D pw_cl [(d, .int), (e3, .int)] s := hK
  have ed : e3 = d := pw_same hK (i := 1) (j := 0) rfl rfl
  rw [ed] at hP hD
  have hK := hK.sub (tys' := [(d, .int)]) [0] rfl
  refine W.widen (k := 4) (n := 40) (Nat.le_of_ble_eq_true rfl) (Nat.le_of_ble_eq_true rfl) ?_
  refine va_putF (D := D) (ci := 0) (v := .ref q4) (ty := .array .int) (C := RX0) (T := TX0) (N := 7) hx hb hts in_X0 tyX0 tyX0_ok nmX0 hown hK hP hD hS 0 rfl rfl 3 (by decide) (hts _ q26) (fun _ h9 => h9) rfl hin rfl (by decide +kernel) rfl rfl (Nat.le_of_ble_eq_true rfl) dX0_init_33 (fun H locs hP hD hS => ?_)
  have hP : va_P D pw_cl [(h0, .inr (0, [.ref q1, .ref q2, .ref q3, .ref q4, .null, .null, .int 0])), (q1, .inl (d, 10, .inl (fun _ => 0))), (q2, .inl (d, 10, .inl (fun _ => 0))), (q3, .inl (d, 10, .inl (fun _ => 0))), (q4, .inl (d, 10, .inl (fun _ => 0)))] H := hP
  have hD : va_D A [(h0, .inr (0, [.ref q1, .ref q2, .ref q3, .ref q4, .null, .null, .int 0])), (q1, .inl (d, 10, .inl (fun _ => 0))), (q2, .inl (d, 10, .inl (fun _ => 0))), (q3, .inl (d, 10, .inl (fun _ => 0))), (q4, .inl (d, 10, .inl (fun _ => 0)))] := hD
  refine lv_aload_n hx hb dX0_init_36 rfl (lv_at hl 0 rfl) ?_
  refine lv_bipush (v := nI 10) hx hb dX0_init_37 (by decide +kernel) ?_
  refine va_newa (atype := .int) (ty := .int) (N' := 10) (a0 := (10, .inl (fun _ => 0))) hx hb (hts _ q45) rfl hK hP hD hS hA (fun _ => rfl) (by decide) (by decide) (by decide) (Nat.le_of_ble_eq_true rfl) (Nat.le_of_ble_eq_true rfl) dX0_init_39 (fun q5 e4 H hK hP hD hS => ?_)
  have hP : va_P D pw_cl [(h0, .inr (0, [.ref q1, .ref q2, .ref q3, .ref q4, .null, .null, .int 0])), (q1, .inl (d, 10, .inl (fun _ => 0))), (q2, .inl (d, 10, .inl (fun _ => 0))), (q3, .inl (d, 10, .inl (fun _ => 0))), (q4, .inl (d, 10, .inl (fun _ => 0))), (q5, .inl (e4, 10, .inl (fun _ => 0)))] H := hP
  have hD : va_D A [(h0, .inr (0, [.ref q1, .ref q2, .ref q3, .ref q4, .null, .null, .int 0])), (q1, .inl (d, 10, .inl (fun _ => 0))), (q2, .inl (d, 10, .inl (fun _ => 0))), (q3, .inl (d, 10, .inl (fun _ => 0))), (q4, .inl (d, 10, .inl (fun _ => 0))), (q5, .inl (e4, 10, .inl (fun _ => 0)))] := hD
  have hK : va_K D pw_cl [(d, .int), (e4, .int)] s := hK
  have ed : e4 = d := pw_same hK (i := 1) (j := 0) rfl rfl
  rw [ed] at hP hD
  have hK := hK.sub (tys' := [(d, .int)]) [0] rfl
  refine W.widen (k := 5) (n := 50) (Nat.le_of_ble_eq_true rfl) (Nat.le_of_ble_eq_true rfl) ?_
  refine va_putF (D := D) (ci := 0) (v := .ref q5) (ty := .array .int) (C := RX0) (T := TX0) (N := 7) hx hb hts in_X0 tyX0 tyX0_ok nmX0 hown hK hP hD hS 0 rfl rfl 4 (by decide) (hts _ q27) (fun _ h9 => h9) rfl hin rfl (by decide +kernel) rfl rfl (Nat.le_of_ble_eq_true rfl) dX0_init_41 (fun H locs hP hD hS => ?_)
  have hP : va_P D pw_cl [(h0, .inr (0, [.ref q1, .ref q2, .ref q3, .ref q4, .ref q5, .null, .int 0])), (q1, .inl (d, 10, .inl (fun _ => 0))), (q2, .inl (d, 10, .inl (fun _ => 0))), (q3, .inl (d, 10, .inl (fun _ => 0))), (q4, .inl (d, 10, .inl (fun _ => 0))), (q5, .inl (d, 10, .inl (fun _ => 0)))] H := hP
  have hD : va_D A [(h0, .inr (0, [.ref q1, .ref q2, .ref q3, .ref q4, .ref q5, .null, .int 0])), (q1, .inl (d, 10, .inl (fun _ => 0))), (q2, .inl (d, 10, .inl (fun _ => 0))), (q3, .inl (d, 10, .inl (fun _ => 0))), (q4, .inl (d, 10, .inl (fun _ => 0))), (q5, .inl (d, 10, .inl (fun _ => 0)))] := hD
  refine lv_aload_n hx hb dX0_init_44 rfl (lv_at hl 0 rfl) ?_
  refine lv_bipush (v := nI 10) hx hb dX0_init_45 (by decide +kernel) ?_
  refine va_newa (atype := .int) (ty := .int) (N' := 10) (a0 := (10, .inl (fun _ => 0))) hx hb (hts _ q45) rfl hK hP hD hS hA (fun _ => rfl) (by decide) (by decide) (by decide) (Nat.le_of_ble_eq_true rfl) (Nat.le_of_ble_eq_true rfl) dX0_init_47 (fun q6 e5 H hK hP hD hS => ?_)
  have hP : va_P D pw_cl [(h0, .inr (0, [.ref q1, .ref q2, .ref q3, .ref q4, .ref q5, .null, .int 0])), (q1, .inl (d, 10, .inl (fun _ => 0))), (q2, .inl (d, 10, .inl (fun _ => 0))), (q3, .inl (d, 10, .inl (fun _ => 0))), (q4, .inl (d, 10, .inl (fun _ => 0))), (q5, .inl (d, 10, .inl (fun _ => 0))), (q6, .inl (e5, 10, .inl (fun _ => 0)))] H := hP
  have hD : va_D A [(h0, .inr (0, [.ref q1, .ref q2, .ref q3, .ref q4, .ref q5, .null, .int 0])), (q1, .inl (d, 10, .inl (fun _ => 0))), (q2, .inl (d, 10, .inl (fun _ => 0))), (q3, .inl (d, 10, .inl (fun _ => 0))), (q4, .inl (d, 10, .inl (fun _ => 0))), (q5, .inl (d, 10, .inl (fun _ => 0))), (q6, .inl (e5, 10, .inl (fun _ => 0)))] := hD
  have hK : va_K D pw_cl [(d, .int), (e5, .int)] s := hK
  have ed : e5 = d := pw_same hK (i := 1) (j := 0) rfl rfl
  rw [ed] at hP hD
  have hK := hK.sub (tys' := [(d, .int)]) [0] rfl
  refine W.widen (k := 6) (n := 60) (Nat.le_of_ble_eq_true rfl) (Nat.le_of_ble_eq_true rfl) ?_
  refine va_putF (D := D) (ci := 0) (v := .ref q6) (ty := .array .int) (C := RX0) (T := TX0) (N := 7) hx hb hts in_X0 tyX0 tyX0_ok nmX0 hown hK hP hD hS 0 rfl rfl 5 (by decide) (hts _ q28) (fun _ h9 => h9) rfl hin rfl (by decide +kernel) rfl rfl (Nat.le_of_ble_eq_true rfl) dX0_init_49 (fun H locs hP hD hS => ?_)
  have hP : va_P D pw_cl [(h0, .inr (0, [.ref q1, .ref q2, .ref q3, .ref q4, .ref q5, .ref q6, .int 0])), (q1, .inl (d, 10, .inl (fun _ => 0))), (q2, .inl (d, 10, .inl (fun _ => 0))), (q3, .inl (d, 10, .inl (fun _ => 0))), (q4, .inl (d, 10, .inl (fun _ => 0))), (q5, .inl (d, 10, .inl (fun _ => 0))), (q6, .inl (d, 10, .inl (fun _ => 0)))] H := hP
  have hD : va_D A [(h0, .inr (0, [.ref q1, .ref q2, .ref q3, .ref q4, .ref q5, .ref q6, .int 0])), (q1, .inl (d, 10, .inl (fun _ => 0))), (q2, .inl (d, 10, .inl (fun _ => 0))), (q3, .inl (d, 10, .inl (fun _ => 0))), (q4, .inl (d, 10, .inl (fun _ => 0))), (q5, .inl (d, 10, .inl (fun _ => 0))), (q6, .inl (d, 10, .inl (fun _ => 0)))] := hD
  exact W.vret hx hb hr (fun t ht hW => ⟨⟨(d, (fun k => ([h0, q1, q2, q3, q4, q5, q6] : List Nat).getD k 0)), rfl, rfl, (by rw [ht]; exact hP), va_K.moved hW.alike hK, hD⟩, hS.F ht⟩) hS.2.2 dX0_init_52
set_option maxHeartbeats 4000000 in
set_option maxRecDepth 100000 in
/-- the constructor: 1 new arrays -/
theorem metX1_init (l : Launch) (D : va_G) (h0 sz : Nat) : Met l yX1_init (ws_ yX1_init cX1_init 1 none) ({ frames := 1, cells := 1, slots := 100, locals := 12 }) (va_Pc [.ref h0] (fun U => U.heap.size = sz ∧ va_P D pw_cl [(h0, .inr (1, [.null]))] U.heap ∧ va_K D pw_cl [] U ∧ va_D (fun _ => True) [(h0, .inr (1, [.null]))])) (va_Qv (fun u : ClassId × (Nat → Nat) => u.2 0 = h0) (fun u t => va_P D pw_cl (pw_X1 u.1 u.2 (fun _ => 0)) t.heap ∧ va_K D pw_cl [(u.1, .boolean)] t ∧ va_D (va_A [(h0, .inr (1, [.null]))] sz) (pw_X1 u.1 u.2 (fun _ => 0))) (va_A [(h0, .inr (1, [.null]))] sz)) 1 100 (va_A [(h0, .inr (1, [.null]))] sz) := by
  refine Met.ofW (cc := cX1_init) (maxL := 1) (ret := none) (by decide) rfl ?_
  intro p e s m args below meth c s₁ B hml hv
  obtain ⟨rfl, hsz, hP, hK, hD0⟩ := hv
  have hx := B.exec
  have hb := B.bytes
  have hr := B.returns
  have hts := atoms_spec (ws := ws_ yX1_init cX1_init 1 none) B.pre
  have hts : ∀ w ∈ lw_all, w.before _ s = true := fun w h => hts w (List.mem_cons_of_mem _ h)
  have hown : s.vm.findClass RX1 = some m.cls := findClass_of_methodNamed B.named
  have hlocks := B.notSynchronized
  have hin : meth.name = "<init>" := (name_of_methodNamed B.named B.method).1
  subst hsz
  have hD := hD0.self (sz := s.heap.size)
  generalize hAe : va_A [(h0, .inr (1, [.null]))] s.heap.size = A at hD ⊢
  have hA : ∀ q : Nat, s.heap.size ≤ q → A q := fun q h => by rw [← hAe]; exact Or.inr h
  have hS : va_S A s.heap s.heap [] := va_S.rf
  have hP : va_P D pw_cl [(h0, .inr (1, [.null]))] s.heap := hP
  have hl := lv_entry ([.ref h0]) (n := 1) (Nat.le_of_ble_eq_true rfl)
  rw [lg_entry_eq]
  generalize (lg_sl ([.ref h0]) ++ List.replicate (1 - (lg_sl ([.ref h0])).length) Slot.unset).toArray = ls at hl ⊢
  have hl : lv_has ls 1 [(0, .ref h0)] := hl
  refine lv_aload_n hx hb dX1_init_0 rfl (lv_at hl 0 rfl) ?_
  refine W.objInit hx hb hown (hts _ q130) (hts _ q21) (hts _ q22) rfl (by rw [hml]; exact hl.1) rfl dX1_init_1 (Nat.le_of_ble_eq_true rfl) (Nat.le_of_ble_eq_true rfl) ?_
  refine W.eq (g2 := F0 m 4 ls []) rfl ?_
  refine lv_aload_n hx hb dX1_init_4 rfl (lv_at hl 0 rfl) ?_
  refine lv_bipush (v := nI 100) hx hb dX1_init_5 (by decide +kernel) ?_
  refine va_newa (atype := .boolean) (ty := .boolean) (N' := 100) (a0 := (100, .inl (fun _ => 0))) hx hb (hts _ q135) rfl hK hP hD hS hA (fun _ => rfl) (by decide) (by decide) (by decide) (Nat.le_of_ble_eq_true rfl) (Nat.le_of_ble_eq_true rfl) dX1_init_7 (fun q1 d H hK hP hD hS => ?_)
  have hP : va_P D pw_cl [(h0, .inr (1, [.null])), (q1, .inl (d, 100, .inl (fun _ => 0)))] H := hP
  have hD : va_D A [(h0, .inr (1, [.null])), (q1, .inl (d, 100, .inl (fun _ => 0)))] := hD
  have hK : va_K D pw_cl [(d, .boolean)] s := hK
  refine W.widen (k := 1) (n := 100) (Nat.le_of_ble_eq_true rfl) (Nat.le_of_ble_eq_true rfl) ?_
  refine va_putF (D := D) (ci := 1) (v := .ref q1) (ty := .array .boolean) (C := RX1) (T := TX1) (N := 1) hx hb hts in_X1 tyX1 tyX1_ok nmX1 hown hK hP hD hS 0 rfl rfl 0 (by decide) (hts _ q131) (fun _ h9 => h9) rfl hin rfl (by decide +kernel) rfl rfl (Nat.le_of_ble_eq_true rfl) dX1_init_9 (fun H locs hP hD hS => ?_)
  have hP : va_P D pw_cl [(h0, .inr (1, [.ref q1])), (q1, .inl (d, 100, .inl (fun _ => 0)))] H := hP
  have hD : va_D A [(h0, .inr (1, [.ref q1])), (q1, .inl (d, 100, .inl (fun _ => 0)))] := hD
  exact W.vret hx hb hr (fun t ht hW => ⟨⟨(d, (fun k => ([h0, q1] : List Nat).getD k 0)), rfl, rfl, (by rw [ht]; exact hP), va_K.moved hW.alike hK, hD⟩, hS.F ht⟩) hS.2.2 dX1_init_12
end
section
/-! ===== both sides answer alike ===== -/
theorem pw_join_put {R : Nat → Nat → Bool} {x y r1 r2 : Int32} {K1 K2 : Prop} {G1 G2 : (Nat → Nat → Bool) → Prop} (hO : pw_Ord R) (k1 : K1 → G1 R) (k2 : K2 → G2 R) (h1 : pw_Pp R x y r1 K1 G1) (h2 : pw_Pp R x y r2 K2 G2) : r1 = r2 ∧ ∃ R2, pw_Ord R2 ∧ G1 R2 ∧ G2 R2 := by
  rcases h1 with ⟨a1, a2, a3⟩ | ⟨a, b, ha, hb, ex, ey, hne, hba, er, hg⟩
  · rcases h2 with ⟨b1, b2, b3⟩ | ⟨a, b, ha, hb, ex, ey, hne, hba, er, hg⟩
    · exact ⟨a1.trans b1.symm, R, hO, k1 a2, k2 b2⟩
    · rcases a3 a b ha hb ex ey with z | z
      · exact absurd z hne
      · exact (pw_tf hba z).elim
  · rcases h2 with ⟨b1, b2, b3⟩ | ⟨a', b', ha', hb', ex', ey', hne', hba', er', hg'⟩
    · rcases b3 a b ha hb ex ey with z | z
      · exact absurd z hne
      · exact (pw_tf hba z).elim
    · have e1 : a' = a := (nI_eq (by omega) (by omega)).mp (ex'.symm.trans ex)
      have e2 : b' = b := (nI_eq (by omega) (by omega)).mp (ey'.symm.trans ey)
      rw [e1, e2] at er' hg'
      exact ⟨er.trans er'.symm, pw_put R a b, hO.put ha hb hne hba, hg, hg'⟩
theorem pw_join_rel {R : Nat → Nat → Bool} {x r1 r2 : Int32} {K1 K2 : Prop} {G1 G2 : (Nat → Nat → Bool) → Prop} (hO : pw_Ord R) (k1 : K1 → G1 R) (k2 : K2 → G2 R) (h1 : pw_Pr R x r1 K1 G1) (h2 : pw_Pr R x r2 K2 G2) : r1 = r2 ∧ ∃ R2, pw_Ord R2 ∧ G1 R2 ∧ G2 R2 := by
  rcases h1 with ⟨a1, a2, a3⟩ | ⟨t, ht, ex, er, hg⟩
  · rcases h2 with ⟨b1, b2, b3⟩ | ⟨t, ht, ex, er, hg⟩
    · exact ⟨a2.trans b2.symm, R, hO, k1 a3, k2 b3⟩
    · rw [ex] at a1; exact (pw_tf a1 (pw_th_nI ht)).elim
  · rcases h2 with ⟨b1, b2, b3⟩ | ⟨t', ht', ex', er', hg'⟩
    · rw [ex] at b1; exact (pw_tf b1 (pw_th_nI ht)).elim
    · have e1 : t' = t := (nI_eq (by omega) (by omega)).mp (ex'.symm.trans ex)
      rw [e1] at er' hg'
      exact ⟨er.trans er'.symm, pw_rel R t, hO.rel t, hg, hg'⟩
theorem pw_join_before {R : Nat → Nat → Bool} {x y r1 r2 : Int32} (h1 : pw_Pb R x y r1) (h2 : pw_Pb R x y r2) : r1 = r2 := by
  rcases h1 with ⟨a1, a2⟩ | ⟨s, t, hs, ht, ex, ey, er⟩
  · rcases h2 with ⟨b1, b2⟩ | ⟨s, t, hs, ht, ex, ey, er⟩
    · exact a2.trans b2.symm
    · rw [ex, ey, pw_th_nI hs, pw_th_nI ht] at a1; cases a1
  · rcases h2 with ⟨b1, b2⟩ | ⟨s', t', hs', ht', ex', ey', er'⟩
    · rw [ex, ey, pw_th_nI hs, pw_th_nI ht] at b1; cases b1
    · have e1 : s' = s := (nI_eq (by omega) (by omega)).mp (ex'.symm.trans ex)
      have e2 : t' = t := (nI_eq (by omega) (by omega)).mp (ey'.symm.trans ey)
      rw [e1, e2] at er'
      exact er.trans er'.symm
theorem pw_join_t {F G : Nat → Nat → Prop} {x r1 r2 : Int32} (h : ∀ t w w2, t < 10 → F t w → G t w2 → w = w2) (h1 : pw_Pt F x r1) (h2 : pw_Pt G x r2) : r1 = r2 := by
  rcases h1 with ⟨a1, a2⟩ | ⟨t, w, ht, ex, er, hF⟩
  · rcases h2 with ⟨b1, b2⟩ | ⟨t, w, ht, ex, er, hF⟩
    · exact a2.trans b2.symm
    · rw [ex, pw_th_nI ht] at a1; cases a1
  · rcases h2 with ⟨b1, b2⟩ | ⟨t', w', ht', ex', er', hG⟩
    · rw [ex, pw_th_nI ht] at b1; cases b1
    · have e1 : t' = t := (nI_eq (by omega) (by omega)).mp (ex'.symm.trans ex)
      rw [e1] at hG
      rw [er, er', h t w w' ht hF hG]
theorem pw_join_w {F G : Nat → Prop} {r1 r2 : Int32} (h : ∀ w w2, F w → G w2 → w = w2) (h1 : ∃ w, r1 = nI w ∧ F w) (h2 : ∃ w, r2 = nI w ∧ G w) : r1 = r2 := by
  obtain ⟨w, e1, hF⟩ := h1
  obtain ⟨w2, e2, hG⟩ := h2
  rw [e1, e2, h w w2 hF hG]
theorem pw_join_c {R : Nat → Nat → Bool} {j : Nat} {x r1 r2 : Int32} (hJ : pw_Best R (fun _ => false) (fun _ => false) false 1024 j) (h1 : pw_Pj j x r1) (h2 : pw_Pc R x r2) : r1 = r2 := by
  rcases h1 with ⟨a1, a2⟩ | ⟨t, ht, ex, er⟩
  · rcases h2 with ⟨b1, b2⟩ | ⟨t, j2, ht, ex, er, hb⟩
    · exact a2.trans b2.symm
    · rw [ex, pw_th_nI ht] at a1; cases a1
  · rcases h2 with ⟨b1, b2⟩ | ⟨t', j2, ht', ex', er', hb⟩
    · rw [ex, pw_th_nI ht] at b1; cases b1
    · have e1 : t' = t := (nI_eq (by omega) (by omega)).mp (ex'.symm.trans ex)
      rw [e1, hb.one hJ] at er'
      exact er.trans er'.symm
theorem pw_keep1 {D : va_G} {d : ClassId} {h g : Nat → Nat} {z : Nat → Int32} {H H1 : Heap} (hP : va_P D pw_cl (pw_X1 d g z) H) (hk : ∀ q : Nat, q < H.size → ¬ pw_AX h 7 q → H1[q]? = H[q]?) (hdis : ∀ i j, i < 7 → j < 2 → h i ≠ g j) : va_P D pw_cl (pw_X1 d g z) H1 := by
  refine hP.kept (fun k x hx => hk x.1 (hP k x hx).lt ?_)
  rintro ⟨i, hi, e⟩
  match k, hx with
  | 0, hx => cases hx; exact hdis i 0 hi (by omega) e.symm
  | 1, hx => cases hx; exact hdis i 1 hi (by omega) e.symm
  | k + 2, hx => cases hx
theorem pw_keep0 {D : va_G} {d : ClassId} {h g : Nat → Nat} {a b n p r q : Nat → Int32} {qe : Int32} {H H1 : Heap} (hP : va_P D pw_cl (pw_X0 d h a b n p r q qe) H) (hk : ∀ q : Nat, q < H.size → ¬ pw_AX g 2 q → H1[q]? = H[q]?) (hdis : ∀ i j, i < 7 → j < 2 → h i ≠ g j) : va_P D pw_cl (pw_X0 d h a b n p r q qe) H1 := by
  refine hP.kept (fun k x hx => hk x.1 (hP k x hx).lt ?_)
  rintro ⟨i, hi, e⟩
  match k, hx with
  | 0, hx => cases hx; exact hdis 0 i (by omega) hi e
  | 1, hx => cases hx; exact hdis 1 i (by omega) hi e
  | 2, hx => cases hx; exact hdis 2 i (by omega) hi e
  | 3, hx => cases hx; exact hdis 3 i (by omega) hi e
  | 4, hx => cases hx; exact hdis 4 i (by omega) hi e
  | 5, hx => cases hx; exact hdis 5 i (by omega) hi e
  | 6, hx => cases hx; exact hdis 6 i (by omega) hi e
  | k + 7, hx => cases hx
theorem pw_inc3 (t : Nat) : nI t + Int32.ofInt 3 = nI (t + 3) := nI_add t 3
theorem pw_end {L i : Nat} (hL : L ≤ 192) (hi : i ≤ 195) (c : ¬ (nI L - nI 3) < nI i) : i + 3 ≤ L := by
  rw [Int32.lt_iff_toInt_lt, pk_sub_toInt (by omega) (by omega), nI_toInt (by omega)] at c
  omega
section PWL
variable {p : Program} {l : Launch} {e : Env} {R : Room} {s : State} {m : MethodId} {args : Array Value} {below : List Frame} {meth : Method} {c : Code} {H : Heap} {locs : List Loc} {cells slots : Nat} {Q : State → Prop}
variable {cc : ByteArray} {pc : Nat} {ls : Array Slot} {rest : List Value} {A : Nat → Prop} {H0 : Heap}
theorem pw_sld (hexec : p.tables.exec = Jvm.exec) (hb : c.code = cc) {b L : Nat} {xs : Nat → Int32} (hX : va_X b L xs s H0) (hbl : b < H0.size) (hbA : ¬ A b) (hS : va_S A H0 H locs) {i : Nat} (hi : i < L) (hL : L ≤ 192) (hdg : decode cc pc = .ok (.iaload, 1))
    (kk : W p l e R s m args below meth c H locs cells slots Q (F0 m (pc + 1) ls (.int (xs i) :: rest))) : W p l e R s m args below meth c H locs cells slots Q (F0 m pc ls (.int (nI i) :: .ref b :: rest)) :=
  va_sld hexec hb hX hbl hbA hS (vp_in_nI hi (by omega)) hdg (by rw [nI_clamp (by omega)]; exact kk)
end PWL
end
section
/-! THE CLAIM OUT OF ONE WALK OF THE LAW'S BODY. Your part is whole_start (and what it stands on); all else here is the same for every law, but numbers. -/
def R_law : String := "PosetWidthLaw"
def lw_P (b : Addr) (xs : List Int32) (args : Array Value) (s : State) : Prop := args = #[.ref b] ∧ s.IntsAt b xs ∧ xs.length ≤ 192 ∧ (Jvm.Cond.and given_1 narrow_1).before args s = true
def lw_Q (_ : Array Value) (s : State) (o : Outcome) (t : State) : Prop := o = .returned (some (.int 1)) ∧ Framed s o t [] 600000 7290000
def lw_Z (below : List Frame) (a : Array Value) (s : State) : State → Prop := fun t => ∃ o, t.status = .running ∧ Ended t below o ∧ lw_Q a s o t
/-- the law's own end, with 1 on the stack, nothing written that was there before, its room as the claim has it -/
theorem lw_ret {p : Program} {l : Launch} {e : Env} {s : State} {m : MethodId} {below : List Frame} {meth : Method} {c : Code} {b : Nat} (hx : p.tables.exec = Jvm.exec) (hb : c.code = code) (hr : meth.sig.returnType = ret) (hlocks : meth.locks = false) {pc : Nat} {H : Heap} {ls : Array Slot} (hdg : decode code pc = .ok (.ireturn, 1)) : W p l e room_1 s m #[Value.ref b] below meth c H [] 600000 7290000 (lw_Z below #[Value.ref b] s) (F0 m pc ls [.int 1]) := by
  intro T hT X
  obtain ⟨fs, hret, hrun, hended, hW, hframe⟩ := X.leave (v := some (.int 1)) (hlocks := hlocks) (fun h => by rw [hr] at h; cases h)
  have hmeth' : T.vm.method? m = some meth := X.method'
  refine ⟨T.setFrames fs, ?_, .returned (some (.int 1)), hrun, hended, rfl, ⟨_, rfl⟩, hW, hframe⟩
  jvm_step X.here [X.here.top, hx, hb, hdg, hmeth', hr, ret, narrow_b1]
  (try refine ⟨rfl, ?_⟩); (try refine ⟨rfl, ?_⟩)
  first | (intro acts; rw [hret _ acts rfl rfl rfl]) | rw [hret _ _ rfl rfl rfl]
  exact Steps.refl _
/-- what holds at the law's entry: the machine, the code, the tables' words (any of lw_tbl by 'hts w (by decide +kernel)'), the script of L ints xs at the cell b, what the Statement gives of the start (any of its parts by flat_of_before) -/
def lw_At (p : Program) (s : State) (m : MethodId) (meth : Method) (c : Code) (b L : Nat) (xs : Nat → Int32) : Prop :=
  p.tables.exec = Jvm.exec ∧ c.code = code ∧ meth.sig.returnType = ret ∧ c.maxLocals = 4 ∧ s.vm.findClass R_law = some m.cls ∧ (∀ w ∈ lw_tbl, w.before #[Value.ref b] s = true) ∧ va_X b L xs s s.heap ∧ b < s.heap.size ∧ meth.locks = false ∧ (Jvm.Cond.and given_1 narrow_1).before #[Value.ref b] s = true
set_option maxHeartbeats 8000000 in
set_option maxRecDepth 100000 in
/-- THE LAW'S LOOP: at its head both objects hold the same order -/
theorem pw_law {p : Program} {l : Launch} {e : Env} {s : State} {m : MethodId} {below : List Frame} {meth : Method} {c : Code} {D : va_G} {b L : Nat} {xs : Nat → Int32} (hL : L ≤ 192) (C0 : lw_At p s m meth c b L xs) {d d2 : ClassId} {h g : Nat → Nat} (hj0 : ∀ i j, i < 7 → j < 7 → h i = h j → i = j) (hj1 : ∀ i j, i < 2 → j < 2 → g i = g j → i = j) (hdis : ∀ i j, i < 7 → j < 2 → h i ≠ g j) (hA0 : ∀ k, k < 7 → s.heap.size ≤ h k) (hA1 : ∀ k, k < 2 → s.heap.size ≤ g k) (hK : va_K D pw_cl [(d, .int), (d2, .boolean)] s) :
    ∀ (n i : Nat) (R : Nat → Nat → Bool) (fa fb fn fp fr fq : Nat → Int32) (fe : Int32) (fz : Nat → Int32), i ≤ 195 → 200 ≤ i + n → pw_Ord R → pw_Rep R fa fb → pw_Rz R fz → ∀ (H : Heap) (locs : List Loc), va_P D pw_cl (pw_X0 d h fa fb fn fp fr fq fe) H → va_P D pw_cl (pw_X1 d2 g fz) H → va_S (fun q : Nat => s.heap.size ≤ q) s.heap H locs → ∀ (ls : Array Slot), lv_has ls 4 [(0, .ref b), (1, .ref (h 0)), (2, .ref (g 0)), (3, .int (nI i))] → W p l e room_1 s m #[Value.ref b] below meth c H locs 9 168 (lw_Z below #[Value.ref b] s) (F0 m 18 ls []) := by
  obtain ⟨hx, hb, hr, hml, hown, hts0, hX, hbl, hlocks, hgv⟩ := C0
  have hts : ∀ w ∈ lw_all, w.before #[Value.ref b] s = true := fun w h => hts0 w (lw_all_tbl h)
  have hbA : ¬ (fun q : Nat => s.heap.size ≤ q) b := Nat.not_le.mpr hbl
  intro n
  induction n with
  | zero =>
    intro i R fa fb fn fp fr fq fe fz h1 h2
    exfalso; omega
  | succ n ih =>
    intro i R fa fb fn fp fr fq fe fz hi hn hO hR hZ H locs hP0 hP1 hS ls hl
    refine lv_iload_n hx hb dL_law_18 rfl (lv_at hl 3 rfl) ?_
    refine lv_aload_n hx hb dL_law_19 rfl (lv_at hl 0 rfl) ?_
    refine va_slen hx hb hX hbl hbA hS dL_law_20 ?_
    refine lv_iconst (v := nI 3) hx hb dL_law_21 (by decide +kernel) ?_
    refine lv_isub hx hb dL_law_22 ?_
    refine lv_icmp_gt (tgt := 350) hx hb dL_law_23 (by decide) (fun c23 => ?_) (fun c23 => ?_)
    · refine lv_iconst (v := 1) hx hb dL_law_350 (by decide) ?_
      refine va_forget (fun q hq => hS.2.2 q hq) ?_
      refine W.widen (k := 600000) (n := 7290000) (by omega) (by omega) ?_
      exact lw_ret hx hb hr hlocks dL_law_351
    · have hlt : i + 3 ≤ L := pw_end hL hi c23
      refine lv_aload_n hx hb dL_law_26 rfl (lv_at hl 0 rfl) ?_
      refine lv_iload_n hx hb dL_law_27 rfl (lv_at hl 3 rfl) ?_
      refine pw_sld hx hb hX hbl hbA hS (show i < L by omega) hL dL_law_28 ?_
      refine lv_bipush (v := 15) hx hb dL_law_29 (by decide +kernel) ?_
      refine lv_iand hx hb dL_law_31 ?_
      obtain ⟨j, hj, ej⟩ := pk_andE (xs i) (m := 15) 4 (by decide)
      refine pw_top ej ?_
      rcases (show j = 0 ∨ j = 1 ∨ j = 2 ∨ j = 3 ∨ j = 4 ∨ j = 5 ∨ j = 6 ∨ j = 7 ∨ j = 8 ∨ j = 9 ∨ 10 ≤ j by omega) with rfl | rfl | rfl | rfl | rfl | rfl | rfl | rfl | rfl | rfl | hj10
      · refine lv_tableIn (off := 56) (tgt := 88) hx hb dL_law_32 (by decide) (by decide) (by decide) (by decide) ?_
        refine lv_aload_n hx hb dL_law_88 rfl (lv_at hl 1 rfl) ?_
        refine lv_aload_n hx hb dL_law_89 rfl (lv_at hl 0 rfl) ?_
        refine lv_iload_n hx hb dL_law_90 rfl (lv_at hl 3 rfl) ?_
        refine lv_iconst (v := (nI 1)) hx hb dL_law_91 (by decide +kernel) ?_
        refine lv_iadd hx hb dL_law_92 ?_
        refine pw_top (y := (nI (i + 1))) (nI_add _ _) ?_
        refine pw_sld hx hb hX hbl hbA hS (show i + 1 < L by omega) hL dL_law_93 ?_
        refine lv_aload_n hx hb dL_law_94 rfl (lv_at hl 0 rfl) ?_
        refine lv_iload_n hx hb dL_law_95 rfl (lv_at hl 3 rfl) ?_
        refine lv_iconst (v := (nI 2)) hx hb dL_law_96 (by decide +kernel) ?_
        refine lv_iadd hx hb dL_law_97 ?_
        refine pw_top (y := (nI (i + 2))) (nI_add _ _) ?_
        refine pw_sld hx hb hX hbl hbA hS (show i + 2 < L by omega) hL dL_law_98 ?_
        refine pw_call0 (As := [.int (xs (i + 1)), .int (xs (i + 2))]) (rest := []) ⟨hx, hb, hml, hown, hts⟩ (metX0_put l D d h hj0 R fa fb fn fp fr fq fe (xs (i + 1)) (xs (i + 2))  hR) (cwV 2 hts (lw_V q46 q47 q48 q13 q49) rfl rfl rfl (by decide +kernel) ⟨Nat.le_of_ble_eq_true rfl, Nat.le_of_ble_eq_true rfl⟩) hK hP0 [0] rfl hA0 hS rfl hl.1 rfl (Nat.le_of_ble_eq_true rfl) dL_law_99 ⟨Nat.le_of_ble_eq_true rfl, Nat.le_of_ble_eq_true rfl⟩ (fun r1 ga gb gn gp gr gq ge H locs er1 hP0 hk hS => ?_)
        have hP1 := pw_keep1 hP1 hk hdis
        refine lv_aload_n hx hb dL_law_102 rfl (lv_at hl 2 rfl) ?_
        refine lv_aload_n hx hb dL_law_103 rfl (lv_at hl 0 rfl) ?_
        refine lv_iload_n hx hb dL_law_104 rfl (lv_at hl 3 rfl) ?_
        refine lv_iconst (v := (nI 1)) hx hb dL_law_105 (by decide +kernel) ?_
        refine lv_iadd hx hb dL_law_106 ?_
        refine pw_top (y := (nI (i + 1))) (nI_add _ _) ?_
        refine pw_sld hx hb hX hbl hbA hS (show i + 1 < L by omega) hL dL_law_107 ?_
        refine lv_aload_n hx hb dL_law_108 rfl (lv_at hl 0 rfl) ?_
        refine lv_iload_n hx hb dL_law_109 rfl (lv_at hl 3 rfl) ?_
        refine lv_iconst (v := (nI 2)) hx hb dL_law_110 (by decide +kernel) ?_
        refine lv_iadd hx hb dL_law_111 ?_
        refine pw_top (y := (nI (i + 2))) (nI_add _ _) ?_
        refine pw_sld hx hb hX hbl hbA hS (show i + 2 < L by omega) hL dL_law_112 ?_
        refine pw_call1 (As := [.int (xs (i + 1)), .int (xs (i + 2))]) (rest := [.int r1]) ⟨hx, hb, hml, hown, hts⟩ (metX1_put l D d2 g hj1 R fz (xs (i + 1)) (xs (i + 2)) hZ) (cwV 2 hts (lw_V q136 q137 q138 q14 q139) rfl rfl rfl (by decide +kernel) ⟨Nat.le_of_ble_eq_true rfl, Nat.le_of_ble_eq_true rfl⟩) hK hP1 [1] rfl hA1 hS rfl hl.1 rfl (Nat.le_of_ble_eq_true rfl) dL_law_113 ⟨Nat.le_of_ble_eq_true rfl, Nat.le_of_ble_eq_true rfl⟩ (fun r2 gz H locs er2 hP1 hk hS => ?_)
        have hP0 := pw_keep0 hP0 hk hdis
        have er1 : pw_Pp R (xs (i + 1)) (xs (i + 2)) r1 (pw_K2 fa fb (ga, gb, gn, gp, gr, gq, ge)) (fun R2 => pw_Rep R2 ga gb) := er1
        have er2 : pw_Pp R (xs (i + 1)) (xs (i + 2)) r2 (gz = fz) (fun R2 => pw_Rz R2 gz) := er2
        obtain ⟨heq, R2, hO2, hR2, hZ2⟩ := pw_join_put hO (fun z => (by rw [show ga = fa from z.1, show gb = fb from z.2]; exact hR : pw_Rep R ga gb)) (fun z => (by rw [z]; exact hZ : pw_Rz R gz)) er1 er2
        refine lv_icmp_eq (tgt := 344) hx hb dL_law_116 (by decide) (fun _ => ?_) (fun c9 => absurd heq c9)
        refine lv_iinc (v := (nI (i + 3))) (lv' := [(3, .int (nI (i + 3))), (0, .ref b), (1, .ref (h 0)), (2, .ref (g 0))]) hx hb dL_law_344 hl (k := 3) rfl (pw_inc3 _) (by decide) rfl (fun ls hl => ?_)
        refine lv_goto (tgt := 18) hx hb dL_law_347 (by decide) ?_
        exact ih (i + 3) R2 ga gb gn gp gr gq ge gz (by omega) (by omega) hO2 hR2 hZ2 _ _ hP0 hP1 hS ls (lv_sub hl [1, 2, 3, 0] rfl)
      · refine lv_tableIn (off := 89) (tgt := 121) hx hb dL_law_32 (by decide) (by decide) (by decide) (by decide) ?_
        refine lv_aload_n hx hb dL_law_121 rfl (lv_at hl 1 rfl) ?_
        refine lv_aload_n hx hb dL_law_122 rfl (lv_at hl 0 rfl) ?_
        refine lv_iload_n hx hb dL_law_123 rfl (lv_at hl 3 rfl) ?_
        refine lv_iconst (v := (nI 1)) hx hb dL_law_124 (by decide +kernel) ?_
        refine lv_iadd hx hb dL_law_125 ?_
        refine pw_top (y := (nI (i + 1))) (nI_add _ _) ?_
        refine pw_sld hx hb hX hbl hbA hS (show i + 1 < L by omega) hL dL_law_126 ?_
        refine pw_call0 (As := [.int (xs (i + 1))]) (rest := []) ⟨hx, hb, hml, hown, hts⟩ (metX0_release l D d h hj0 R fa fb fn fp fr fq fe (xs (i + 1))  hR) (cwV 1 hts (lw_V q60 q61 q62 q13 q63) rfl rfl rfl (by decide +kernel) ⟨Nat.le_of_ble_eq_true rfl, Nat.le_of_ble_eq_true rfl⟩) hK hP0 [0] rfl hA0 hS rfl hl.1 rfl (Nat.le_of_ble_eq_true rfl) dL_law_127 ⟨Nat.le_of_ble_eq_true rfl, Nat.le_of_ble_eq_true rfl⟩ (fun r1 ga gb gn gp gr gq ge H locs er1 hP0 hk hS => ?_)
        have hP1 := pw_keep1 hP1 hk hdis
        refine lv_aload_n hx hb dL_law_130 rfl (lv_at hl 2 rfl) ?_
        refine lv_aload_n hx hb dL_law_131 rfl (lv_at hl 0 rfl) ?_
        refine lv_iload_n hx hb dL_law_132 rfl (lv_at hl 3 rfl) ?_
        refine lv_iconst (v := (nI 1)) hx hb dL_law_133 (by decide +kernel) ?_
        refine lv_iadd hx hb dL_law_134 ?_
        refine pw_top (y := (nI (i + 1))) (nI_add _ _) ?_
        refine pw_sld hx hb hX hbl hbA hS (show i + 1 < L by omega) hL dL_law_135 ?_
        refine pw_call1 (As := [.int (xs (i + 1))]) (rest := [.int r1]) ⟨hx, hb, hml, hown, hts⟩ (metX1_release l D d2 g hj1 R fz (xs (i + 1)) hZ) (cwV 1 hts (lw_V q147 q148 q149 q14 q150) rfl rfl rfl (by decide +kernel) ⟨Nat.le_of_ble_eq_true rfl, Nat.le_of_ble_eq_true rfl⟩) hK hP1 [1] rfl hA1 hS rfl hl.1 rfl (Nat.le_of_ble_eq_true rfl) dL_law_136 ⟨Nat.le_of_ble_eq_true rfl, Nat.le_of_ble_eq_true rfl⟩ (fun r2 gz H locs er2 hP1 hk hS => ?_)
        have hP0 := pw_keep0 hP0 hk hdis
        have er1 : pw_Pr R (xs (i + 1)) r1 (pw_K2 fa fb (ga, gb, gn, gp, gr, gq, ge)) (fun R2 => pw_Rep R2 ga gb) := er1
        have er2 : pw_Pr R (xs (i + 1)) r2 (gz = fz) (fun R2 => pw_Rz R2 gz) := er2
        obtain ⟨heq, R2, hO2, hR2, hZ2⟩ := pw_join_rel hO (fun z => (by rw [show ga = fa from z.1, show gb = fb from z.2]; exact hR : pw_Rep R ga gb)) (fun z => (by rw [z]; exact hZ : pw_Rz R gz)) er1 er2
        refine lv_icmp_eq (tgt := 344) hx hb dL_law_139 (by decide) (fun _ => ?_) (fun c9 => absurd heq c9)
        refine lv_iinc (v := (nI (i + 3))) (lv' := [(3, .int (nI (i + 3))), (0, .ref b), (1, .ref (h 0)), (2, .ref (g 0))]) hx hb dL_law_344 hl (k := 3) rfl (pw_inc3 _) (by decide) rfl (fun ls hl => ?_)
        refine lv_goto (tgt := 18) hx hb dL_law_347 (by decide) ?_
        exact ih (i + 3) R2 ga gb gn gp gr gq ge gz (by omega) (by omega) hO2 hR2 hZ2 _ _ hP0 hP1 hS ls (lv_sub hl [1, 2, 3, 0] rfl)
      · refine lv_tableIn (off := 112) (tgt := 144) hx hb dL_law_32 (by decide) (by decide) (by decide) (by decide) ?_
        refine lv_aload_n hx hb dL_law_144 rfl (lv_at hl 1 rfl) ?_
        refine lv_aload_n hx hb dL_law_145 rfl (lv_at hl 0 rfl) ?_
        refine lv_iload_n hx hb dL_law_146 rfl (lv_at hl 3 rfl) ?_
        refine lv_iconst (v := (nI 1)) hx hb dL_law_147 (by decide +kernel) ?_
        refine lv_iadd hx hb dL_law_148 ?_
        refine pw_top (y := (nI (i + 1))) (nI_add _ _) ?_
        refine pw_sld hx hb hX hbl hbA hS (show i + 1 < L by omega) hL dL_law_149 ?_
        refine lv_aload_n hx hb dL_law_150 rfl (lv_at hl 0 rfl) ?_
        refine lv_iload_n hx hb dL_law_151 rfl (lv_at hl 3 rfl) ?_
        refine lv_iconst (v := (nI 2)) hx hb dL_law_152 (by decide +kernel) ?_
        refine lv_iadd hx hb dL_law_153 ?_
        refine pw_top (y := (nI (i + 2))) (nI_add _ _) ?_
        refine pw_sld hx hb hX hbl hbA hS (show i + 2 < L by omega) hL dL_law_154 ?_
        refine pw_callV (As := [.int (xs (i + 1)), .int (xs (i + 2))]) (rest := []) ⟨hx, hb, hml, hown, hts⟩ (metX0_before l D d h R fa fb fn fp fr fq fe (xs (i + 1)) (xs (i + 2))  hR) (cwV 2 hts (lw_V q64 q65 q66 q13 q67) rfl rfl rfl (by decide +kernel) ⟨Nat.le_of_ble_eq_true rfl, Nat.le_of_ble_eq_true rfl⟩) hK hP0 [0] rfl (ci := 0) rfl rfl rfl hS rfl hl.1 rfl (Nat.le_of_ble_eq_true rfl) dL_law_155 ⟨Nat.le_of_ble_eq_true rfl, Nat.le_of_ble_eq_true rfl⟩ (fun r1 H locs er1 hk hS => ?_)
        have hP0 := pw_keep hP0 hk
        have hP1 := pw_keep hP1 hk
        have hR2 := hR
        refine lv_aload_n hx hb dL_law_158 rfl (lv_at hl 2 rfl) ?_
        refine lv_aload_n hx hb dL_law_159 rfl (lv_at hl 0 rfl) ?_
        refine lv_iload_n hx hb dL_law_160 rfl (lv_at hl 3 rfl) ?_
        refine lv_iconst (v := (nI 1)) hx hb dL_law_161 (by decide +kernel) ?_
        refine lv_iadd hx hb dL_law_162 ?_
        refine pw_top (y := (nI (i + 1))) (nI_add _ _) ?_
        refine pw_sld hx hb hX hbl hbA hS (show i + 1 < L by omega) hL dL_law_163 ?_
        refine lv_aload_n hx hb dL_law_164 rfl (lv_at hl 0 rfl) ?_
        refine lv_iload_n hx hb dL_law_165 rfl (lv_at hl 3 rfl) ?_
        refine lv_iconst (v := (nI 2)) hx hb dL_law_166 (by decide +kernel) ?_
        refine lv_iadd hx hb dL_law_167 ?_
        refine pw_top (y := (nI (i + 2))) (nI_add _ _) ?_
        refine pw_sld hx hb hX hbl hbA hS (show i + 2 < L by omega) hL dL_law_168 ?_
        refine pw_callV (As := [.int (xs (i + 1)), .int (xs (i + 2))]) (rest := [.int r1]) ⟨hx, hb, hml, hown, hts⟩ (metX1_before l D d2 g R fz (xs (i + 1)) (xs (i + 2)) hZ) (cwV 2 hts (lw_V q151 q152 q153 q14 q154) rfl rfl rfl (by decide +kernel) ⟨Nat.le_of_ble_eq_true rfl, Nat.le_of_ble_eq_true rfl⟩) hK hP1 [1] rfl (ci := 1) rfl rfl rfl hS rfl hl.1 rfl (Nat.le_of_ble_eq_true rfl) dL_law_169 ⟨Nat.le_of_ble_eq_true rfl, Nat.le_of_ble_eq_true rfl⟩ (fun r2 H locs er2 hk hS => ?_)
        have hP0 := pw_keep hP0 hk
        have hP1 := pw_keep hP1 hk
        have heq : r1 = r2 := pw_join_before er1 er2
        refine lv_icmp_eq (tgt := 344) hx hb dL_law_172 (by decide) (fun _ => ?_) (fun c9 => absurd heq c9)
        refine lv_iinc (v := (nI (i + 3))) (lv' := [(3, .int (nI (i + 3))), (0, .ref b), (1, .ref (h 0)), (2, .ref (g 0))]) hx hb dL_law_344 hl (k := 3) rfl (pw_inc3 _) (by decide) rfl (fun ls hl => ?_)
        refine lv_goto (tgt := 18) hx hb dL_law_347 (by decide) ?_
        exact ih (i + 3) R fa fb fn fp fr fq fe fz (by omega) (by omega) hO hR2 hZ _ _ hP0 hP1 hS ls (lv_sub hl [1, 2, 3, 0] rfl)
      · refine lv_tableIn (off := 145) (tgt := 177) hx hb dL_law_32 (by decide) (by decide) (by decide) (by decide) ?_
        refine lv_aload_n hx hb dL_law_177 rfl (lv_at hl 1 rfl) ?_
        refine pw_call0 (As := []) (rest := []) ⟨hx, hb, hml, hown, hts⟩ (metX0_width l D d h hj0 R fa fb fn fp fr fq fe   hR hO) (cwV 0 hts (lw_V q68 q69 q70 q13 q71) rfl rfl rfl (by decide +kernel) ⟨Nat.le_of_ble_eq_true rfl, Nat.le_of_ble_eq_true rfl⟩) hK hP0 [0] rfl hA0 hS rfl hl.1 rfl (Nat.le_of_ble_eq_true rfl) dL_law_178 ⟨Nat.le_of_ble_eq_true rfl, Nat.le_of_ble_eq_true rfl⟩ (fun r1 ga gb gn gp gr gq ge H locs er1 hP0 hk hS => ?_)
        have hP1 := pw_keep1 hP1 hk hdis
        have hR2 : pw_Rep R ga gb := by rw [show ga = fa from er1.1.1, show gb = fb from er1.1.2]; exact hR
        refine lv_aload_n hx hb dL_law_181 rfl (lv_at hl 2 rfl) ?_
        refine pw_callV (As := []) (rest := [.int r1]) ⟨hx, hb, hml, hown, hts⟩ (metX1_width l D d2 g R fz  hZ) (cwV 0 hts (lw_V q155 q156 q157 q14 q158) rfl rfl rfl (by decide +kernel) ⟨Nat.le_of_ble_eq_true rfl, Nat.le_of_ble_eq_true rfl⟩) hK hP1 [1] rfl (ci := 1) rfl rfl rfl hS rfl hl.1 rfl (Nat.le_of_ble_eq_true rfl) dL_law_182 ⟨Nat.le_of_ble_eq_true rfl, Nat.le_of_ble_eq_true rfl⟩ (fun r2 H locs er2 hk hS => ?_)
        have hP0 := pw_keep hP0 hk
        have hP1 := pw_keep hP1 hk
        have heq : r1 = r2 := pw_join_w (F := fun w => pw_Width R (fun _ => true) w) (G := fun w => pw_Sz R (fun _ => false) (fun _ => false) false w) (fun w w2 h1 h2 => pw_Sz.width hO (P := fun _ => true) (O := fun _ => false) (fun _ _ => rfl) h1 h2) er1.2 er2
        refine lv_icmp_eq (tgt := 344) hx hb dL_law_185 (by decide) (fun _ => ?_) (fun c9 => absurd heq c9)
        refine lv_iinc (v := (nI (i + 3))) (lv' := [(3, .int (nI (i + 3))), (0, .ref b), (1, .ref (h 0)), (2, .ref (g 0))]) hx hb dL_law_344 hl (k := 3) rfl (pw_inc3 _) (by decide) rfl (fun ls hl => ?_)
        refine lv_goto (tgt := 18) hx hb dL_law_347 (by decide) ?_
        exact ih (i + 3) R ga gb gn gp gr gq ge fz (by omega) (by omega) hO hR2 hZ _ _ hP0 hP1 hS ls (lv_sub hl [1, 2, 3, 0] rfl)
      · refine lv_tableIn (off := 158) (tgt := 190) hx hb dL_law_32 (by decide) (by decide) (by decide) (by decide) ?_
        refine lv_aload_n hx hb dL_law_190 rfl (lv_at hl 1 rfl) ?_
        refine lv_aload_n hx hb dL_law_191 rfl (lv_at hl 0 rfl) ?_
        refine lv_iload_n hx hb dL_law_192 rfl (lv_at hl 3 rfl) ?_
        refine lv_iconst (v := (nI 1)) hx hb dL_law_193 (by decide +kernel) ?_
        refine lv_iadd hx hb dL_law_194 ?_
        refine pw_top (y := (nI (i + 1))) (nI_add _ _) ?_
        refine pw_sld hx hb hX hbl hbA hS (show i + 1 < L by omega) hL dL_law_195 ?_
        refine pw_call0 (As := [.int (xs (i + 1))]) (rest := []) ⟨hx, hb, hml, hown, hts⟩ (metX0_widthWith l D d h hj0 R fa fb fn fp fr fq fe (xs (i + 1))  hR hO) (cwV 1 hts (lw_V q88 q89 q90 q13 q91) rfl rfl rfl (by decide +kernel) ⟨Nat.le_of_ble_eq_true rfl, Nat.le_of_ble_eq_true rfl⟩) hK hP0 [0] rfl hA0 hS rfl hl.1 rfl (Nat.le_of_ble_eq_true rfl) dL_law_196 ⟨Nat.le_of_ble_eq_true rfl, Nat.le_of_ble_eq_true rfl⟩ (fun r1 ga gb gn gp gr gq ge H locs er1 hP0 hk hS => ?_)
        have hP1 := pw_keep1 hP1 hk hdis
        have hR2 : pw_Rep R ga gb := by rw [show ga = fa from er1.1.1, show gb = fb from er1.1.2]; exact hR
        refine lv_aload_n hx hb dL_law_199 rfl (lv_at hl 2 rfl) ?_
        refine lv_aload_n hx hb dL_law_200 rfl (lv_at hl 0 rfl) ?_
        refine lv_iload_n hx hb dL_law_201 rfl (lv_at hl 3 rfl) ?_
        refine lv_iconst (v := (nI 1)) hx hb dL_law_202 (by decide +kernel) ?_
        refine lv_iadd hx hb dL_law_203 ?_
        refine pw_top (y := (nI (i + 1))) (nI_add _ _) ?_
        refine pw_sld hx hb hX hbl hbA hS (show i + 1 < L by omega) hL dL_law_204 ?_
        refine pw_callV (As := [.int (xs (i + 1))]) (rest := [.int r1]) ⟨hx, hb, hml, hown, hts⟩ (metX1_widthWith l D d2 g R fz (xs (i + 1)) hZ) (cwV 1 hts (lw_V q174 q175 q176 q14 q177) rfl rfl rfl (by decide +kernel) ⟨Nat.le_of_ble_eq_true rfl, Nat.le_of_ble_eq_true rfl⟩) hK hP1 [1] rfl (ci := 1) rfl rfl rfl hS rfl hl.1 rfl (Nat.le_of_ble_eq_true rfl) dL_law_205 ⟨Nat.le_of_ble_eq_true rfl, Nat.le_of_ble_eq_true rfl⟩ (fun r2 H locs er2 hk hS => ?_)
        have hP0 := pw_keep hP0 hk
        have hP1 := pw_keep hP1 hk
        have heq : r1 = r2 := pw_join_t (fun t w w2 ht h1 h2 => by obtain ⟨w0, e0, h0⟩ := h1; rw [e0]; exact pw_Sz.with hO ht h0 h2) er1.2 er2
        refine lv_icmp_eq (tgt := 344) hx hb dL_law_208 (by decide) (fun _ => ?_) (fun c9 => absurd heq c9)
        refine lv_iinc (v := (nI (i + 3))) (lv' := [(3, .int (nI (i + 3))), (0, .ref b), (1, .ref (h 0)), (2, .ref (g 0))]) hx hb dL_law_344 hl (k := 3) rfl (pw_inc3 _) (by decide) rfl (fun ls hl => ?_)
        refine lv_goto (tgt := 18) hx hb dL_law_347 (by decide) ?_
        exact ih (i + 3) R ga gb gn gp gr gq ge fz (by omega) (by omega) hO hR2 hZ _ _ hP0 hP1 hS ls (lv_sub hl [1, 2, 3, 0] rfl)
      · refine lv_tableIn (off := 181) (tgt := 213) hx hb dL_law_32 (by decide) (by decide) (by decide) (by decide) ?_
        refine lv_aload_n hx hb dL_law_213 rfl (lv_at hl 1 rfl) ?_
        refine lv_aload_n hx hb dL_law_214 rfl (lv_at hl 0 rfl) ?_
        refine lv_iload_n hx hb dL_law_215 rfl (lv_at hl 3 rfl) ?_
        refine lv_iconst (v := (nI 1)) hx hb dL_law_216 (by decide +kernel) ?_
        refine lv_iadd hx hb dL_law_217 ?_
        refine pw_top (y := (nI (i + 1))) (nI_add _ _) ?_
        refine pw_sld hx hb hX hbl hbA hS (show i + 1 < L by omega) hL dL_law_218 ?_
        refine pw_call0 (As := [.int (xs (i + 1))]) (rest := []) ⟨hx, hb, hml, hown, hts⟩ (metX0_widthWithout l D d h hj0 R fa fb fn fp fr fq fe (xs (i + 1))  hR hO) (cwV 1 hts (lw_V q96 q97 q98 q13 q99) rfl rfl rfl (by decide +kernel) ⟨Nat.le_of_ble_eq_true rfl, Nat.le_of_ble_eq_true rfl⟩) hK hP0 [0] rfl hA0 hS rfl hl.1 rfl (Nat.le_of_ble_eq_true rfl) dL_law_219 ⟨Nat.le_of_ble_eq_true rfl, Nat.le_of_ble_eq_true rfl⟩ (fun r1 ga gb gn gp gr gq ge H locs er1 hP0 hk hS => ?_)
        have hP1 := pw_keep1 hP1 hk hdis
        have hR2 : pw_Rep R ga gb := by rw [show ga = fa from er1.1.1, show gb = fb from er1.1.2]; exact hR
        refine lv_aload_n hx hb dL_law_222 rfl (lv_at hl 2 rfl) ?_
        refine lv_aload_n hx hb dL_law_223 rfl (lv_at hl 0 rfl) ?_
        refine lv_iload_n hx hb dL_law_224 rfl (lv_at hl 3 rfl) ?_
        refine lv_iconst (v := (nI 1)) hx hb dL_law_225 (by decide +kernel) ?_
        refine lv_iadd hx hb dL_law_226 ?_
        refine pw_top (y := (nI (i + 1))) (nI_add _ _) ?_
        refine pw_sld hx hb hX hbl hbA hS (show i + 1 < L by omega) hL dL_law_227 ?_
        refine pw_callV (As := [.int (xs (i + 1))]) (rest := [.int r1]) ⟨hx, hb, hml, hown, hts⟩ (metX1_widthWithout l D d2 g R fz (xs (i + 1)) hZ) (cwV 1 hts (lw_V q178 q179 q180 q14 q181) rfl rfl rfl (by decide +kernel) ⟨Nat.le_of_ble_eq_true rfl, Nat.le_of_ble_eq_true rfl⟩) hK hP1 [1] rfl (ci := 1) rfl rfl rfl hS rfl hl.1 rfl (Nat.le_of_ble_eq_true rfl) dL_law_228 ⟨Nat.le_of_ble_eq_true rfl, Nat.le_of_ble_eq_true rfl⟩ (fun r2 H locs er2 hk hS => ?_)
        have hP0 := pw_keep hP0 hk
        have hP1 := pw_keep hP1 hk
        have heq : r1 = r2 := pw_join_t (F := fun t w => pw_Width R (fun i => !(i == t)) w) (G := fun t w => pw_Sz R (fun _ => false) (fun i => i == t) false w) (fun t w w2 ht h1 h2 => pw_Sz.width hO (fun _ _ => rfl) h1 h2) er1.2 er2
        refine lv_icmp_eq (tgt := 344) hx hb dL_law_231 (by decide) (fun _ => ?_) (fun c9 => absurd heq c9)
        refine lv_iinc (v := (nI (i + 3))) (lv' := [(3, .int (nI (i + 3))), (0, .ref b), (1, .ref (h 0)), (2, .ref (g 0))]) hx hb dL_law_344 hl (k := 3) rfl (pw_inc3 _) (by decide) rfl (fun ls hl => ?_)
        refine lv_goto (tgt := 18) hx hb dL_law_347 (by decide) ?_
        exact ih (i + 3) R ga gb gn gp gr gq ge fz (by omega) (by omega) hO hR2 hZ _ _ hP0 hP1 hS ls (lv_sub hl [1, 2, 3, 0] rfl)
      · refine lv_tableIn (off := 204) (tgt := 236) hx hb dL_law_32 (by decide) (by decide) (by decide) (by decide) ?_
        obtain ⟨j0, hJ⟩ := pw_Best.ex R
        refine lv_aload_n hx hb dL_law_236 rfl (lv_at hl 1 rfl) ?_
        refine lv_aload_n hx hb dL_law_237 rfl (lv_at hl 0 rfl) ?_
        refine lv_iload_n hx hb dL_law_238 rfl (lv_at hl 3 rfl) ?_
        refine lv_iconst (v := (nI 1)) hx hb dL_law_239 (by decide +kernel) ?_
        refine lv_iadd hx hb dL_law_240 ?_
        refine pw_top (y := (nI (i + 1))) (nI_add _ _) ?_
        refine pw_sld hx hb hX hbl hbA hS (show i + 1 < L by omega) hL dL_law_241 ?_
        refine pw_call0 (As := [.int (xs (i + 1))]) (rest := []) ⟨hx, hb, hml, hown, hts⟩ (metX0_chosen l D d h hj0 R fa fb fn fp fr fq fe (xs (i + 1)) j0 hR hO hJ) (cwV 1 hts (lw_V q100 q101 q102 q13 q103) rfl rfl rfl (by decide +kernel) ⟨Nat.le_of_ble_eq_true rfl, Nat.le_of_ble_eq_true rfl⟩) hK hP0 [0] rfl hA0 hS rfl hl.1 rfl (Nat.le_of_ble_eq_true rfl) dL_law_242 ⟨Nat.le_of_ble_eq_true rfl, Nat.le_of_ble_eq_true rfl⟩ (fun r1 ga gb gn gp gr gq ge H locs er1 hP0 hk hS => ?_)
        have hP1 := pw_keep1 hP1 hk hdis
        have hR2 : pw_Rep R ga gb := by rw [show ga = fa from er1.1.1, show gb = fb from er1.1.2]; exact hR
        refine lv_aload_n hx hb dL_law_245 rfl (lv_at hl 2 rfl) ?_
        refine lv_aload_n hx hb dL_law_246 rfl (lv_at hl 0 rfl) ?_
        refine lv_iload_n hx hb dL_law_247 rfl (lv_at hl 3 rfl) ?_
        refine lv_iconst (v := (nI 1)) hx hb dL_law_248 (by decide +kernel) ?_
        refine lv_iadd hx hb dL_law_249 ?_
        refine pw_top (y := (nI (i + 1))) (nI_add _ _) ?_
        refine pw_sld hx hb hX hbl hbA hS (show i + 1 < L by omega) hL dL_law_250 ?_
        refine pw_callV (As := [.int (xs (i + 1))]) (rest := [.int r1]) ⟨hx, hb, hml, hown, hts⟩ (metX1_chosen l D d2 g R fz (xs (i + 1)) hZ) (cwV 1 hts (lw_V q182 q183 q184 q14 q185) rfl rfl rfl (by decide +kernel) ⟨Nat.le_of_ble_eq_true rfl, Nat.le_of_ble_eq_true rfl⟩) hK hP1 [1] rfl (ci := 1) rfl rfl rfl hS rfl hl.1 rfl (Nat.le_of_ble_eq_true rfl) dL_law_251 ⟨Nat.le_of_ble_eq_true rfl, Nat.le_of_ble_eq_true rfl⟩ (fun r2 H locs er2 hk hS => ?_)
        have hP0 := pw_keep hP0 hk
        have hP1 := pw_keep hP1 hk
        have heq : r1 = r2 := pw_join_c hJ er1.2 er2
        refine lv_icmp_eq (tgt := 344) hx hb dL_law_254 (by decide) (fun _ => ?_) (fun c9 => absurd heq c9)
        refine lv_iinc (v := (nI (i + 3))) (lv' := [(3, .int (nI (i + 3))), (0, .ref b), (1, .ref (h 0)), (2, .ref (g 0))]) hx hb dL_law_344 hl (k := 3) rfl (pw_inc3 _) (by decide) rfl (fun ls hl => ?_)
        refine lv_goto (tgt := 18) hx hb dL_law_347 (by decide) ?_
        exact ih (i + 3) R ga gb gn gp gr gq ge fz (by omega) (by omega) hO hR2 hZ _ _ hP0 hP1 hS ls (lv_sub hl [1, 2, 3, 0] rfl)
      · refine lv_tableIn (off := 227) (tgt := 259) hx hb dL_law_32 (by decide) (by decide) (by decide) (by decide) ?_
        refine lv_aload_n hx hb dL_law_259 rfl (lv_at hl 1 rfl) ?_
        refine pw_callV (As := []) (rest := []) ⟨hx, hb, hml, hown, hts⟩ (metX0_height l D d h R fa fb fn fp fr fq fe   hR hO) (cwV 0 hts (lw_V q104 q105 q106 q13 q107) rfl rfl rfl (by decide +kernel) ⟨Nat.le_of_ble_eq_true rfl, Nat.le_of_ble_eq_true rfl⟩) hK hP0 [0] rfl (ci := 0) rfl rfl rfl hS rfl hl.1 rfl (Nat.le_of_ble_eq_true rfl) dL_law_260 ⟨Nat.le_of_ble_eq_true rfl, Nat.le_of_ble_eq_true rfl⟩ (fun r1 H locs er1 hk hS => ?_)
        have hP0 := pw_keep hP0 hk
        have hP1 := pw_keep hP1 hk
        have hR2 := hR
        refine lv_aload_n hx hb dL_law_263 rfl (lv_at hl 2 rfl) ?_
        refine pw_callV (As := []) (rest := [.int r1]) ⟨hx, hb, hml, hown, hts⟩ (metX1_height l D d2 g R fz  hZ) (cwV 0 hts (lw_V q186 q187 q188 q14 q189) rfl rfl rfl (by decide +kernel) ⟨Nat.le_of_ble_eq_true rfl, Nat.le_of_ble_eq_true rfl⟩) hK hP1 [1] rfl (ci := 1) rfl rfl rfl hS rfl hl.1 rfl (Nat.le_of_ble_eq_true rfl) dL_law_264 ⟨Nat.le_of_ble_eq_true rfl, Nat.le_of_ble_eq_true rfl⟩ (fun r2 H locs er2 hk hS => ?_)
        have hP0 := pw_keep hP0 hk
        have hP1 := pw_keep hP1 hk
        have heq : r1 = r2 := pw_join_w (fun w w2 h1 h2 => pw_Sz.height h1 h2) er1 er2
        refine lv_icmp_eq (tgt := 344) hx hb dL_law_267 (by decide) (fun _ => ?_) (fun c9 => absurd heq c9)
        refine lv_iinc (v := (nI (i + 3))) (lv' := [(3, .int (nI (i + 3))), (0, .ref b), (1, .ref (h 0)), (2, .ref (g 0))]) hx hb dL_law_344 hl (k := 3) rfl (pw_inc3 _) (by decide) rfl (fun ls hl => ?_)
        refine lv_goto (tgt := 18) hx hb dL_law_347 (by decide) ?_
        exact ih (i + 3) R fa fb fn fp fr fq fe fz (by omega) (by omega) hO hR2 hZ _ _ hP0 hP1 hS ls (lv_sub hl [1, 2, 3, 0] rfl)
      · refine lv_tableIn (off := 240) (tgt := 272) hx hb dL_law_32 (by decide) (by decide) (by decide) (by decide) ?_
        refine lv_aload_n hx hb dL_law_272 rfl (lv_at hl 1 rfl) ?_
        refine lv_aload_n hx hb dL_law_273 rfl (lv_at hl 0 rfl) ?_
        refine lv_iload_n hx hb dL_law_274 rfl (lv_at hl 3 rfl) ?_
        refine lv_iconst (v := (nI 1)) hx hb dL_law_275 (by decide +kernel) ?_
        refine lv_iadd hx hb dL_law_276 ?_
        refine pw_top (y := (nI (i + 1))) (nI_add _ _) ?_
        refine pw_sld hx hb hX hbl hbA hS (show i + 1 < L by omega) hL dL_law_277 ?_
        refine pw_callV (As := [.int (xs (i + 1))]) (rest := []) ⟨hx, hb, hml, hown, hts⟩ (metX0_heightWith l D d h R fa fb fn fp fr fq fe (xs (i + 1))  hR hO) (cwV 1 hts (lw_V q120 q109 q110 q13 q111) rfl rfl rfl (by decide +kernel) ⟨Nat.le_of_ble_eq_true rfl, Nat.le_of_ble_eq_true rfl⟩) hK hP0 [0] rfl (ci := 0) rfl rfl rfl hS rfl hl.1 rfl (Nat.le_of_ble_eq_true rfl) dL_law_278 ⟨Nat.le_of_ble_eq_true rfl, Nat.le_of_ble_eq_true rfl⟩ (fun r1 H locs er1 hk hS => ?_)
        have hP0 := pw_keep hP0 hk
        have hP1 := pw_keep hP1 hk
        have hR2 := hR
        refine lv_aload_n hx hb dL_law_281 rfl (lv_at hl 2 rfl) ?_
        refine lv_aload_n hx hb dL_law_282 rfl (lv_at hl 0 rfl) ?_
        refine lv_iload_n hx hb dL_law_283 rfl (lv_at hl 3 rfl) ?_
        refine lv_iconst (v := (nI 1)) hx hb dL_law_284 (by decide +kernel) ?_
        refine lv_iadd hx hb dL_law_285 ?_
        refine pw_top (y := (nI (i + 1))) (nI_add _ _) ?_
        refine pw_sld hx hb hX hbl hbA hS (show i + 1 < L by omega) hL dL_law_286 ?_
        refine pw_callV (As := [.int (xs (i + 1))]) (rest := [.int r1]) ⟨hx, hb, hml, hown, hts⟩ (metX1_heightWith l D d2 g R fz (xs (i + 1)) hZ) (cwV 1 hts (lw_V q190 q191 q192 q14 q193) rfl rfl rfl (by decide +kernel) ⟨Nat.le_of_ble_eq_true rfl, Nat.le_of_ble_eq_true rfl⟩) hK hP1 [1] rfl (ci := 1) rfl rfl rfl hS rfl hl.1 rfl (Nat.le_of_ble_eq_true rfl) dL_law_287 ⟨Nat.le_of_ble_eq_true rfl, Nat.le_of_ble_eq_true rfl⟩ (fun r2 H locs er2 hk hS => ?_)
        have hP0 := pw_keep hP0 hk
        have hP1 := pw_keep hP1 hk
        have er1 : pw_Pt (pw_HW R) (xs (i + 1)) r1 := er1
        have heq : r1 = r2 := pw_join_t (fun t w w2 ht h1 h2 => pw_Sz.hw ht h1 h2) er1 er2
        refine lv_icmp_eq (tgt := 344) hx hb dL_law_290 (by decide) (fun _ => ?_) (fun c9 => absurd heq c9)
        refine lv_iinc (v := (nI (i + 3))) (lv' := [(3, .int (nI (i + 3))), (0, .ref b), (1, .ref (h 0)), (2, .ref (g 0))]) hx hb dL_law_344 hl (k := 3) rfl (pw_inc3 _) (by decide) rfl (fun ls hl => ?_)
        refine lv_goto (tgt := 18) hx hb dL_law_347 (by decide) ?_
        exact ih (i + 3) R fa fb fn fp fr fq fe fz (by omega) (by omega) hO hR2 hZ _ _ hP0 hP1 hS ls (lv_sub hl [1, 2, 3, 0] rfl)
      · refine lv_tableIn (off := 263) (tgt := 295) hx hb dL_law_32 (by decide) (by decide) (by decide) (by decide) ?_
        refine lv_aload_n hx hb dL_law_295 rfl (lv_at hl 1 rfl) ?_
        refine lv_aload_n hx hb dL_law_296 rfl (lv_at hl 0 rfl) ?_
        refine lv_iload_n hx hb dL_law_297 rfl (lv_at hl 3 rfl) ?_
        refine lv_iconst (v := (nI 1)) hx hb dL_law_298 (by decide +kernel) ?_
        refine lv_iadd hx hb dL_law_299 ?_
        refine pw_top (y := (nI (i + 1))) (nI_add _ _) ?_
        refine pw_sld hx hb hX hbl hbA hS (show i + 1 < L by omega) hL dL_law_300 ?_
        refine lv_aload_n hx hb dL_law_301 rfl (lv_at hl 0 rfl) ?_
        refine lv_iload_n hx hb dL_law_302 rfl (lv_at hl 3 rfl) ?_
        refine lv_iconst (v := (nI 2)) hx hb dL_law_303 (by decide +kernel) ?_
        refine lv_iadd hx hb dL_law_304 ?_
        refine pw_top (y := (nI (i + 2))) (nI_add _ _) ?_
        refine pw_sld hx hb hX hbl hbA hS (show i + 2 < L by omega) hL dL_law_305 ?_
        refine lv_if_eq (tgt := 313) hx hb dL_law_306 (by decide) (fun c1 => ?_) (fun c1 => ?_)
        · obtain ⟨up, eup⟩ : ∃ up : Bool, up = false := ⟨_, rfl⟩
          refine lv_iconst (v := 0) hx hb dL_law_313 (by decide +kernel) ?_
          refine pw_top (y := (pw_bI up)) (by rw [eup]; rfl) ?_
          refine pw_call0 (As := [.int (xs (i + 1)), .int (pw_bI up)]) (rest := []) ⟨hx, hb, hml, hown, hts⟩ (metX0_widthBeside l D d h hj0 R fa fb fn fp fr fq fe (xs (i + 1)) up  hR hO) (cwV 2 hts (lw_V q121 q122 q123 q13 q124) rfl rfl rfl (by decide +kernel) ⟨Nat.le_of_ble_eq_true rfl, Nat.le_of_ble_eq_true rfl⟩) hK hP0 [0] rfl hA0 hS rfl hl.1 rfl (Nat.le_of_ble_eq_true rfl) dL_law_314 ⟨Nat.le_of_ble_eq_true rfl, Nat.le_of_ble_eq_true rfl⟩ (fun r1 ga gb gn gp gr gq ge H locs er1 hP0 hk hS => ?_)
          have hP1 := pw_keep1 hP1 hk hdis
          have hR2 : pw_Rep R ga gb := by rw [show ga = fa from er1.1.1, show gb = fb from er1.1.2]; exact hR
          refine lv_aload_n hx hb dL_law_317 rfl (lv_at hl 2 rfl) ?_
          refine lv_aload_n hx hb dL_law_318 rfl (lv_at hl 0 rfl) ?_
          refine lv_iload_n hx hb dL_law_319 rfl (lv_at hl 3 rfl) ?_
          refine lv_iconst (v := (nI 1)) hx hb dL_law_320 (by decide +kernel) ?_
          refine lv_iadd hx hb dL_law_321 ?_
          refine pw_top (y := (nI (i + 1))) (nI_add _ _) ?_
          refine pw_sld hx hb hX hbl hbA hS (show i + 1 < L by omega) hL dL_law_322 ?_
          refine lv_aload_n hx hb dL_law_323 rfl (lv_at hl 0 rfl) ?_
          refine lv_iload_n hx hb dL_law_324 rfl (lv_at hl 3 rfl) ?_
          refine lv_iconst (v := (nI 2)) hx hb dL_law_325 (by decide +kernel) ?_
          refine lv_iadd hx hb dL_law_326 ?_
          refine pw_top (y := (nI (i + 2))) (nI_add _ _) ?_
          refine pw_sld hx hb hX hbl hbA hS (show i + 2 < L by omega) hL dL_law_327 ?_
          refine lv_if_eq (tgt := 335) hx hb dL_law_328 (by decide) (fun _ => ?_) (fun c2 => absurd c1 c2)
          refine lv_iconst (v := 0) hx hb dL_law_335 (by decide +kernel) ?_
          refine pw_top (y := (pw_bI up)) (by rw [eup]; rfl) ?_
          refine pw_callV (As := [.int (xs (i + 1)), .int (pw_bI up)]) (rest := [.int r1]) ⟨hx, hb, hml, hown, hts⟩ (metX1_widthBeside l D d2 g R fz (xs (i + 1)) up hZ) (cwV 2 hts (lw_V q194 q195 q196 q14 q197) rfl rfl rfl (by decide +kernel) ⟨Nat.le_of_ble_eq_true rfl, Nat.le_of_ble_eq_true rfl⟩) hK hP1 [1] rfl (ci := 1) rfl rfl rfl hS rfl hl.1 rfl (Nat.le_of_ble_eq_true rfl) dL_law_336 ⟨Nat.le_of_ble_eq_true rfl, Nat.le_of_ble_eq_true rfl⟩ (fun r2 H locs er2 hk hS => ?_)
          have hP0 := pw_keep hP0 hk
          have hP1 := pw_keep hP1 hk
          have heq : r1 = r2 := pw_join_t (fun t w w2 ht h1 h2 => pw_Sz.width hO (fun i _ => by simp) h1 h2) er1.2 er2
          refine lv_icmp_eq (tgt := 344) hx hb dL_law_339 (by decide) (fun _ => ?_) (fun c9 => absurd heq c9)
          refine lv_iinc (v := (nI (i + 3))) (lv' := [(3, .int (nI (i + 3))), (0, .ref b), (1, .ref (h 0)), (2, .ref (g 0))]) hx hb dL_law_344 hl (k := 3) rfl (pw_inc3 _) (by decide) rfl (fun ls hl => ?_)
          refine lv_goto (tgt := 18) hx hb dL_law_347 (by decide) ?_
          exact ih (i + 3) R ga gb gn gp gr gq ge fz (by omega) (by omega) hO hR2 hZ _ _ hP0 hP1 hS ls (lv_sub hl [1, 2, 3, 0] rfl)
        · obtain ⟨up, eup⟩ : ∃ up : Bool, up = true := ⟨_, rfl⟩
          refine lv_iconst (v := 1) hx hb dL_law_309 (by decide +kernel) ?_
          refine pw_top (y := (pw_bI up)) (by rw [eup]; rfl) ?_
          refine lv_goto (tgt := 314) hx hb dL_law_310 (by decide) ?_
          refine pw_call0 (As := [.int (xs (i + 1)), .int (pw_bI up)]) (rest := []) ⟨hx, hb, hml, hown, hts⟩ (metX0_widthBeside l D d h hj0 R fa fb fn fp fr fq fe (xs (i + 1)) up  hR hO) (cwV 2 hts (lw_V q121 q122 q123 q13 q124) rfl rfl rfl (by decide +kernel) ⟨Nat.le_of_ble_eq_true rfl, Nat.le_of_ble_eq_true rfl⟩) hK hP0 [0] rfl hA0 hS rfl hl.1 rfl (Nat.le_of_ble_eq_true rfl) dL_law_314 ⟨Nat.le_of_ble_eq_true rfl, Nat.le_of_ble_eq_true rfl⟩ (fun r1 ga gb gn gp gr gq ge H locs er1 hP0 hk hS => ?_)
          have hP1 := pw_keep1 hP1 hk hdis
          have hR2 : pw_Rep R ga gb := by rw [show ga = fa from er1.1.1, show gb = fb from er1.1.2]; exact hR
          refine lv_aload_n hx hb dL_law_317 rfl (lv_at hl 2 rfl) ?_
          refine lv_aload_n hx hb dL_law_318 rfl (lv_at hl 0 rfl) ?_
          refine lv_iload_n hx hb dL_law_319 rfl (lv_at hl 3 rfl) ?_
          refine lv_iconst (v := (nI 1)) hx hb dL_law_320 (by decide +kernel) ?_
          refine lv_iadd hx hb dL_law_321 ?_
          refine pw_top (y := (nI (i + 1))) (nI_add _ _) ?_
          refine pw_sld hx hb hX hbl hbA hS (show i + 1 < L by omega) hL dL_law_322 ?_
          refine lv_aload_n hx hb dL_law_323 rfl (lv_at hl 0 rfl) ?_
          refine lv_iload_n hx hb dL_law_324 rfl (lv_at hl 3 rfl) ?_
          refine lv_iconst (v := (nI 2)) hx hb dL_law_325 (by decide +kernel) ?_
          refine lv_iadd hx hb dL_law_326 ?_
          refine pw_top (y := (nI (i + 2))) (nI_add _ _) ?_
          refine pw_sld hx hb hX hbl hbA hS (show i + 2 < L by omega) hL dL_law_327 ?_
          refine lv_if_eq (tgt := 335) hx hb dL_law_328 (by decide) (fun c2 => absurd c2 c1) (fun _ => ?_)
          refine lv_iconst (v := 1) hx hb dL_law_331 (by decide +kernel) ?_
          refine pw_top (y := (pw_bI up)) (by rw [eup]; rfl) ?_
          refine lv_goto (tgt := 336) hx hb dL_law_332 (by decide) ?_
          refine pw_callV (As := [.int (xs (i + 1)), .int (pw_bI up)]) (rest := [.int r1]) ⟨hx, hb, hml, hown, hts⟩ (metX1_widthBeside l D d2 g R fz (xs (i + 1)) up hZ) (cwV 2 hts (lw_V q194 q195 q196 q14 q197) rfl rfl rfl (by decide +kernel) ⟨Nat.le_of_ble_eq_true rfl, Nat.le_of_ble_eq_true rfl⟩) hK hP1 [1] rfl (ci := 1) rfl rfl rfl hS rfl hl.1 rfl (Nat.le_of_ble_eq_true rfl) dL_law_336 ⟨Nat.le_of_ble_eq_true rfl, Nat.le_of_ble_eq_true rfl⟩ (fun r2 H locs er2 hk hS => ?_)
          have hP0 := pw_keep hP0 hk
          have hP1 := pw_keep hP1 hk
          have heq : r1 = r2 := pw_join_t (fun t w w2 ht h1 h2 => pw_Sz.width hO (fun i _ => by simp) h1 h2) er1.2 er2
          refine lv_icmp_eq (tgt := 344) hx hb dL_law_339 (by decide) (fun _ => ?_) (fun c9 => absurd heq c9)
          refine lv_iinc (v := (nI (i + 3))) (lv' := [(3, .int (nI (i + 3))), (0, .ref b), (1, .ref (h 0)), (2, .ref (g 0))]) hx hb dL_law_344 hl (k := 3) rfl (pw_inc3 _) (by decide) rfl (fun ls hl => ?_)
          refine lv_goto (tgt := 18) hx hb dL_law_347 (by decide) ?_
          exact ih (i + 3) R ga gb gn gp gr gq ge fz (by omega) (by omega) hO hR2 hZ _ _ hP0 hP1 hS ls (lv_sub hl [1, 2, 3, 0] rfl)
      · refine lv_tableOut (tgt := 344) hx hb dL_law_32 (Or.inr (by rw [nI_toInt (by omega)]; omega)) (by decide) ?_
        refine lv_iinc (v := (nI (i + 3))) (lv' := [(3, .int (nI (i + 3))), (0, .ref b), (1, .ref (h 0)), (2, .ref (g 0))]) hx hb dL_law_344 hl (k := 3) rfl (pw_inc3 _) (by decide) rfl (fun ls hl => ?_)
        refine lv_goto (tgt := 18) hx hb dL_law_347 (by decide) ?_
        exact ih (i + 3) R fa fb fn fp fr fq fe fz (by omega) (by omega) hO hR hZ _ _ hP0 hP1 hS ls (lv_sub hl [1, 2, 3, 0] rfl)
end
section
theorem pw_D_of {A : Nat → Prop} {d d2 : ClassId} {h g : Nat → Nat} {a b n p r q z : Nat → Int32} {qe : Int32} (hD : va_D A (pw_X0 d h a b n p r q qe ++ pw_X1 d2 g z)) : (∀ i j, i < 7 → j < 7 → h i = h j → i = j) ∧ (∀ i j, i < 2 → j < 2 → g i = g j → i = j) ∧ (∀ i j, i < 7 → j < 2 → h i ≠ g j) ∧ (∀ k, k < 7 → A (h k)) ∧ ∀ k, k < 2 → A (g k) := by
  have h0 : ∀ i, i < 7 → ∃ x : Nat × va_E, (pw_X0 d h a b n p r q qe ++ pw_X1 d2 g z)[i]? = some x ∧ x.1 = h i := by
    intro i hi
    rcases (show i = 0 ∨ i = 1 ∨ i = 2 ∨ i = 3 ∨ i = 4 ∨ i = 5 ∨ i = 6 by omega) with rfl | rfl | rfl | rfl | rfl | rfl | rfl <;> exact ⟨_, rfl, rfl⟩
  have h1 : ∀ i, i < 2 → ∃ x : Nat × va_E, (pw_X0 d h a b n p r q qe ++ pw_X1 d2 g z)[7 + i]? = some x ∧ x.1 = g i := by
    intro i hi
    rcases (show i = 0 ∨ i = 1 by omega) with rfl | rfl <;> exact ⟨_, rfl, rfl⟩
  refine ⟨fun i j hi hj e => ?_, fun i j hi hj e => ?_, fun i j hi hj e => ?_, fun k hk => ?_, fun k hk => ?_⟩
  · obtain ⟨x, x1, x2⟩ := h0 i hi
    obtain ⟨y, y1, y2⟩ := h0 j hj
    exact hD.1 i j x y x1 y1 (by rw [x2, y2]; exact e)
  · obtain ⟨x, x1, x2⟩ := h1 i hi
    obtain ⟨y, y1, y2⟩ := h1 j hj
    have := hD.1 _ _ x y x1 y1 (by rw [x2, y2]; exact e)
    omega
  · obtain ⟨x, x1, x2⟩ := h0 i hi
    obtain ⟨y, y1, y2⟩ := h1 j hj
    have := hD.1 _ _ x y x1 y1 (by rw [x2, y2]; exact e)
    omega
  · obtain ⟨x, x1, x2⟩ := h0 k hk
    rw [← x2]; exact hD.2 k x x1
  · obtain ⟨x, x1, x2⟩ := h1 k hk
    rw [← x2]; exact hD.2 _ x x1
set_option maxHeartbeats 8000000 in
set_option maxRecDepth 100000 in
/-- THE LAW, from its entry -/
theorem whole_start {p : Program} {e : Env} {s : State} {m : MethodId} {below : List Frame} {meth : Method} {c : Code} (l : Launch) {b L : Nat} {xs : Nat → Int32} (hL : L ≤ 192) (C0 : lw_At p s m meth c b L xs) : W p l e room_1 s m #[Value.ref b] below meth c s.heap [] 0 0 (lw_Z below #[Value.ref b] s) (entryFrame m ([Value.ref b] : List Value).toArray 4) := by
  obtain ⟨hx, hb, hr, hml, hown, hts0, hX, hbl, hlocks, hgv⟩ := id C0
  have hts : ∀ w ∈ lw_all, w.before #[Value.ref b] s = true := fun w h => hts0 w (lw_all_tbl h)
  have hA : ∀ q : Nat, s.heap.size ≤ q → (fun q : Nat => s.heap.size ≤ q) q := fun _ h => h
  obtain ⟨c0, iS0, hKn0⟩ := u_known (C := RX0) (T := TX0) (N := 7) (n := 7) hts in_X0 (hts _ q16)
  obtain ⟨c1, iS1, hKn1⟩ := u_known (C := RX1) (T := TX1) (N := 1) (n := 1) hts in_X1 (hts _ q126)
  obtain ⟨D, hKc⟩ : ∃ D : va_G, ∀ (k : Nat) (q : vw_C), pw_cl[k]? = some q → u_Kn s q.1 q.2.1 q.2.2 (D.1 k) (D.2 k) := by
    refine ⟨(fun k => if k = 0 then c0 else c1, fun k => if k = 0 then iS0 else iS1), ?_⟩
    intro k q hq
    match k, hq with
    | 0, hq => cases hq; exact hKn0
    | 1, hq => cases hq; exact hKn1
    | k + 2, hq => simp [pw_cl] at hq
  have hS : va_S (fun q : Nat => s.heap.size ≤ q) s.heap s.heap [] := va_S.rf
  have hK : va_K D pw_cl [] s := ⟨hKc, fun k q h => by simp at h⟩
  have hP : va_P D pw_cl [] s.heap := fun k q h => by simp at h
  have hD : va_D (fun q : Nat => s.heap.size ≤ q) [] := ⟨fun i j p q h => by simp at h, fun k q h => by simp at h⟩
  have hl := lv_entry ([.ref b]) (n := 4) (Nat.le_of_ble_eq_true rfl)
  rw [lg_entry_eq]
  generalize (lg_sl ([.ref b]) ++ List.replicate (4 - (lg_sl ([.ref b])).length) Slot.unset).toArray = ls at hl ⊢
  have hl : lv_has ls 4 [(0, .ref b)] := hl
  refine va_new (ci := 0) (fs := [.null, .null, .null, .null, .null, .null, .int 0]) (C := RX0) (T := TX0) (N := 7) hx hb hts in_X0 tyX0 tyX0_ok hown (hts _ q15) (hts _ q16) (hts _ q13) hK hP hD hS hA rfl (fun j hj => by rcases (show j = 0 ∨ j = 1 ∨ j = 2 ∨ j = 3 ∨ j = 4 ∨ j = 5 ∨ j = 6 by omega) with rfl | rfl | rfl | rfl | rfl | rfl | rfl <;> rfl) (Nat.le_of_ble_eq_true rfl) (Nat.le_of_ble_eq_true rfl) dL_law_0 (fun x0 H hP hD hS => ?_)
  have hP : va_P D pw_cl [(x0, .inr (0, [.null, .null, .null, .null, .null, .null, .int 0]))] H := hP
  have hD : va_D (fun q : Nat => s.heap.size ≤ q) [(x0, .inr (0, [.null, .null, .null, .null, .null, .null, .int 0]))] := hD
  refine W.widen (k := 1) (n := 7) (by omega) (by omega) ?_
  refine lv_dup hx hb dL_law_3 rfl ?_
  have hFc := va_free (wc := [(x0, .inr (0, [.null, .null, .null, .null, .null, .null, .int 0]))]) hD hS hA [0] rfl
  refine va_callv (va_runI (As := []) (rest := [.ref x0]) ⟨hx, hb, hml, hown, hts⟩ (metX0_init l D x0 H.size) (cwI 0 hts (lw_meth q19) rfl rfl rfl (hts _ q13) (hts _ q17) (hts _ q18) rfl (by decide +kernel) ⟨Nat.le_of_ble_eq_true rfl, Nat.le_of_ble_eq_true rfl⟩) ⟨fun a U g mk q => by obtain ⟨q0, q1, qP, qK, qD⟩ := q; exact ⟨q0, q1, qP, va_K.moved (u := U) (U := U.calling g mk a) (Vm.Alike.refl U.vm) qK, qD⟩, fun U hU hW => ⟨rfl, by rw [hU], by rw [hU]; exact hP, va_K.moved hW.alike hK, hD.weaken (fun _ _ _ _ => trivial)⟩⟩ rfl rfl hl.1 rfl (lv_room (Nat.le_of_ble_eq_true rfl)) dL_law_4 ⟨Nat.le_of_ble_eq_true rfl, Nat.le_of_ble_eq_true rfl⟩) hS (fun q _ h => hFc q h) hFc (fun u t H1 locs ht hvm hw hB hz1 hk1 hS => ?_)
  obtain ⟨d, h⟩ := u
  obtain ⟨hP1, hK1, hD1⟩ := hB
  rw [ht] at hP1
  have hK1 := va_K.moved hvm.symm hK1
  have hw : h 0 = x0 := hw
  obtain ⟨hP, hD⟩ := va_join (wr := []) (w1 := (pw_X0 d h (fun _ => 0) (fun _ => 0) (fun _ => 0) (fun _ => 0) (fun _ => 0) (fun _ => 0) 0)) hP hD [0] [] rfl rfl (by decide) (by decide) hk1 hFc hP1 hD1
  generalize H1 = H at hP hS ⊢
  have hP : va_P D pw_cl (pw_X0 d h (fun _ => 0) (fun _ => 0) (fun _ => 0) (fun _ => 0) (fun _ => 0) (fun _ => 0) 0) H := hP
  have hD : va_D (fun q : Nat => s.heap.size ≤ q) (pw_X0 d h (fun _ => 0) (fun _ => 0) (fun _ => 0) (fun _ => 0) (fun _ => 0) (fun _ => 0) 0) := hD
  have hK : va_K D pw_cl [(d, .int)] s := hK1
  rw [← hw]
  refine W.widen (k := 7) (n := 67) (by omega) (by omega) ?_
  refine lv_astore_n (lv' := [(1, .ref (h 0)), (0, .ref b)]) hx hb dL_law_7 rfl hl (by decide) rfl (fun ls hl => ?_)
  refine va_new (ci := 1) (fs := [.null]) (C := RX1) (T := TX1) (N := 1) hx hb hts in_X1 tyX1 tyX1_ok hown (hts _ q125) (hts _ q126) (hts _ q14) hK hP hD hS hA rfl (fun j hj => by rcases (show j = 0 by omega) with rfl <;> rfl) (Nat.le_of_ble_eq_true rfl) (Nat.le_of_ble_eq_true rfl) dL_law_8 (fun x1 H hP hD hS => ?_)
  have hP : va_P D pw_cl ((pw_X0 d h (fun _ => 0) (fun _ => 0) (fun _ => 0) (fun _ => 0) (fun _ => 0) (fun _ => 0) 0) ++ [(x1, .inr (1, [.null]))]) H := hP
  have hD : va_D (fun q : Nat => s.heap.size ≤ q) ((pw_X0 d h (fun _ => 0) (fun _ => 0) (fun _ => 0) (fun _ => 0) (fun _ => 0) (fun _ => 0) 0) ++ [(x1, .inr (1, [.null]))]) := hD
  refine W.widen (k := 8) (n := 68) (by omega) (by omega) ?_
  refine lv_dup hx hb dL_law_11 rfl ?_
  have hPc := hP.sub (ws' := [(x1, .inr (1, [.null]))]) [7] rfl
  have hDc := hD.sub (ws' := [(x1, .inr (1, [.null]))]) [7] (by decide) rfl
  have hFc := va_free (wc := [(x1, .inr (1, [.null]))]) hD hS hA [7] rfl
  refine va_callv (va_runI (As := []) (rest := [.ref x1]) ⟨hx, hb, hml, hown, hts⟩ (metX1_init l D x1 H.size) (cwI 0 hts (lw_meth q129) rfl rfl rfl (hts _ q14) (hts _ q127) (hts _ q128) rfl (by decide +kernel) ⟨Nat.le_of_ble_eq_true rfl, Nat.le_of_ble_eq_true rfl⟩) ⟨fun a U g mk q => by obtain ⟨q0, q1, qP, qK, qD⟩ := q; exact ⟨q0, q1, qP, va_K.moved (u := U) (U := U.calling g mk a) (Vm.Alike.refl U.vm) qK, qD⟩, fun U hU hW => ⟨rfl, by rw [hU], by rw [hU]; exact hPc, va_K.moved hW.alike (hK.sub (tys' := []) [] rfl), hDc.weaken (fun _ _ _ _ => trivial)⟩⟩ rfl rfl hl.1 rfl (lv_room (Nat.le_of_ble_eq_true rfl)) dL_law_12 ⟨Nat.le_of_ble_eq_true rfl, Nat.le_of_ble_eq_true rfl⟩) hS (fun q _ h => hFc q h) hFc (fun u t H1 locs ht hvm hw1 hB hz1 hk1 hS => ?_)
  obtain ⟨d2, g⟩ := u
  obtain ⟨hP1, hK1, hD1⟩ := hB
  rw [ht] at hP1
  have hK1 := va_K.moved hvm.symm hK1
  have hw1 : g 0 = x1 := hw1
  obtain ⟨hP, hD⟩ := va_join (wr := (pw_X0 d h (fun _ => 0) (fun _ => 0) (fun _ => 0) (fun _ => 0) (fun _ => 0) (fun _ => 0) 0)) (w1 := (pw_X1 d2 g (fun _ => 0))) hP hD [7] [0, 1, 2, 3, 4, 5, 6] rfl rfl (by decide) (by decide) hk1 hFc hP1 hD1
  generalize H1 = H at hP hS ⊢
  have hK : va_K D pw_cl [(d, .int), (d2, .boolean)] s := hK.app hK1
  rw [← hw1]
  refine W.widen (k := 9) (n := 168) (by omega) (by omega) ?_
  refine lv_astore_n (lv' := [(2, .ref (g 0)), (1, .ref (h 0)), (0, .ref b)]) hx hb dL_law_15 rfl hl (by decide) rfl (fun ls hl => ?_)
  refine lv_iconst (v := nI 0) hx hb dL_law_16 (by decide +kernel) ?_
  refine lv_istore_n (lv' := [(3, .int (nI 0)), (2, .ref (g 0)), (1, .ref (h 0)), (0, .ref b)]) hx hb dL_law_17 rfl hl (by decide) rfl (fun ls hl => ?_)
  obtain ⟨hj0, hj1, hdis, hA0, hA1⟩ := pw_D_of hD
  have hP0 : va_P D pw_cl (pw_X0 d h (fun _ => 0) (fun _ => 0) (fun _ => 0) (fun _ => 0) (fun _ => 0) (fun _ => 0) 0) H := hP.sub [0, 1, 2, 3, 4, 5, 6] rfl
  have hP1 : va_P D pw_cl (pw_X1 d2 g (fun _ => 0)) H := hP.sub [7, 8] rfl
  exact pw_law hL C0 hj0 hj1 hdis hA0 hA1 hK 200 0 (fun _ _ => false) (fun _ => 0) (fun _ => 0) (fun _ => 0) (fun _ => 0) (fun _ => 0) (fun _ => 0) 0 (fun _ => 0) (by omega) (by omega) ⟨fun _ _ => rfl, fun _ _ _ _ _ _ h => (by cases h)⟩ ⟨fun t _ => pw_ms_0, fun t _ => pw_ms_0⟩ (fun _ _ _ _ => rfl) _ _ hP0 hP1 hS ls (lv_sub hl [3, 2, 1, 0] rfl)
set_option maxHeartbeats 4000000 in
theorem lw_walk (l : Launch) (b : Addr) (xs : List Int32) : MetFree l x (headSpec (Jvm.Cond.code x code maxLocals ret :: tables_1) room_1) (lw_P b xs) (fun _ _ _ _ _ => True) lw_Q := by
  refine MetFree.of_bodyS (code := code) (maxLocals := maxLocals) (ret := ret) (by decide) ?_ ?_
  · intro args s m h hn
    obtain ⟨meth, c, h1, h2, h3, h4, h5, h6, -, -⟩ := Cond.code_spec hn (atoms_spec (ws := Jvm.Cond.code x code maxLocals ret :: tables_1) h _ List.mem_cons_self)
    exact ⟨meth, c, h1, h2, h3, h4, h5, h6⟩
  · intro p e s m args below meth c s₁ B hml0 hP _
    obtain ⟨rfl, hx, hbd, hgv⟩ := hP
    obtain ⟨scr, harrAt, hlist, hof, hsmall⟩ := hx
    obtain ⟨hcb, hkn, -, -⟩ := State.arrayAt?_spec harrAt
    have hown : s.vm.findClass R_law = some m.cls := findClass_of_methodNamed B.named
    have hts0 : ∀ c ∈ (Jvm.Cond.code x code maxLocals ret :: tables_1), c.before #[Value.ref b] s = true := atoms_spec (ws := Jvm.Cond.code x code maxLocals ret :: tables_1) B.pre
    have hts : ∀ w ∈ lw_tbl, w.before #[Value.ref b] s = true := k2_hts_sels lw_privs (fun w hw => hts0 w (List.mem_cons_of_mem _ hw)) lw_privs_ok
    have hml : c.maxLocals = 4 := B.maxLocals_eq (hts0 _ List.mem_cons_self)
    have X₀ : Stand p l e room_1 s m #[Value.ref b] below meth c s₁ [] 0 0 := Stand.of_body B
    have hh0 : s₁.heap = s.heap := by rw [B.state]; rfl
    have hsz : scr.slots.size = xs.length := by rw [← Array.length_toList, hlist, List.length_map]
    have hval : ∀ j : Nat, j < xs.length → scr.slots[j]? = some (.int (xs.getD j 0)) := fun j hj => by
      rw [← Array.getElem?_toList, hlist]
      simp [hj]
    have hbl : b < s.heap.size := (Array.getElem?_eq_some_iff.mp hcb).1
    have hX : va_X b xs.length (fun j => xs.getD j 0) s s.heap := ⟨scr, hcb, hof, hkn, hsz, hval⟩
    have K : W p l e room_1 s m #[Value.ref b] below meth c s₁.heap [] 0 0 (lw_Z below #[Value.ref b] s) (entryFrame m ([Value.ref b] : List Value).toArray 4) := by
      rw [hh0]
      exact whole_start l hbd ⟨B.exec, B.bytes, B.returns, hml, hown, hts, hX, hbl, B.notSynchronized, hgv⟩
    obtain ⟨t, a1, o, b1, b2, b3⟩ := K s₁ rfl X₀
    exact ⟨t, o, a1, b1, b2, b3⟩
theorem lw_pre_spec {args : Array Value} {s : State} (h : (Jvm.Cond.and given_1 narrow_1).before args s = true) (hr : rest_1_c.before args s = true) : ∃ (b : Addr) (xs : List Int32), lw_P b xs args s := by
  have hs := flat_of_before _ h
  have hq := flat_of_before _ hr
  have hc : (Cond.count 1).before args s = true := hs _ (by decide +kernel)
  have harr : (Cond.arrayOf (.arg 0) .int).before args s = true := hs _ (by decide +kernel)
  have hle : (Cond.le (.length (.arg 0)) (.int 192)).before args s = true := hs _ (by decide +kernel)
  have hlen : (Cond.isInt (.length (.arg 0))).before args s = true := hq _ (by decide +kernel)
  have hall : (Cond.all (.arg 0) (.isInt (.elem (.arg 0) (.index 0)))).before args s = true := hq _ (by decide +kernel)
  obtain ⟨b, xs, hb, hx⟩ := State.ints_of_pre rfl harr hlen hall
  have hsm : xs.length < 2 ^ 31 := hx.choose_spec.2.2.2
  have hev : (Term.length (.arg 0)).eval args s none [] s = some (.int xs.length.toInt32) := hx.length_eval hb
  have hv := Cond.le_ints hev (show (Term.int 192).eval args s none [] s = some (.int 192) from rfl)
  have hd : xs.length.toInt32 ≤ 192 := by
    simpa [Cond.before, Cond.holds, hv] using hle
  have hN : xs.length ≤ 192 := (Int32.ofNat_le_ofNat hsm (by decide)).mp (show Int32.ofNat xs.length ≤ Int32.ofNat 192 from hd)
  exact ⟨b, xs, Cond.one_arg hc (show args[0]? = some (.ref b) from hb), hx, hN, h⟩
theorem lw_comes (l : Launch) : Comes l x (Jvm.Cond.code x code maxLocals ret :: tables_1) room_1 (fun tb e args s => Calls_1 tb e args s ∧ rest_1 tb e args s ∧ Pre_1 tb e args s)
    (fun _ _ args s o t => lw_Q args s o t) := by
  intro p e ha hc hk s m args below hf hfit hheap happ hpre
  obtain ⟨b, xs, hP⟩ := lw_pre_spec hpre.2.2 hpre.2.1
  obtain ⟨k, o, h1, h2, h3, hQ⟩ := lw_walk l b xs p e ha hc hk s m args below hf ((Spec.applies_iff_loose hf).mp happ).1 hP trivial
  exact ⟨k, o, h1, h2, h3, hQ⟩
theorem lw_frame {s t : State} {o : Outcome} {args : Array Value} (h : Framed s o t [] 600000 7290000) :
    Framed s o t (fieldLocs frame_1_writes args s ++ arrayLocs frame_1_arrays args s ++ staticLocs frame_1_statics s) 600000 7290000 := h
theorem lw_limb (L : Cond) (hL : ∀ (args : Array Value) (s t : State), L.after args s (.returned (some (.int 1))) t = true) :
    ArmFor flags0 classFile x code maxLocals ret World_1 tables_1 room_1 Calls_1 rest_1 Pre_1
      (fun tb e a s o t => postC L tb e a s o t ∧ Framed s o t (fieldLocs frame_1_writes a s ++ arrayLocs frame_1_arrays a s ++ staticLocs frame_1_statics s) 600000 7290000) := by
  intro l _ _ _ p e ha hc hk s m args below hf hfit hheap happ hpre
  obtain ⟨k, o, h1, h2, h3, rfl, hF⟩ := lw_comes l p e ha hc hk s m args below hf hfit hheap happ hpre
  exact ⟨k, _, h1, h2, h3, hL args s _, lw_frame hF⟩
theorem i_vc : Claimed_1_1 ∧ Claimed_1_2 := ⟨lw_limb limb_1_1 (fun args s t => by simp [limb_1_1, Cond.after, Cond.holds, Cond.value]), lw_limb limb_1_2 (fun args s t => Cond.after_iff.mpr (by
  first | (rw [show limb_1_2 = Cond.eq .result (.int 1) from rfl, Cond.eq_ints (x := 1) (y := 1) rfl rfl]; simp; done) | (simp [limb_1_2, Cond.value, Term.eval]; done)))⟩
end
