section
-- ===== PART A: goes FIRST, ahead of the names: the tables' words, and 'selects' of the private methods out of them =====
/-- a private method of a class that the tables say can be made, by its rows of tables_1 -/
def lw_okq (q : MethodName × Nat) : Prop := (q.1.cls ≠ "java/lang/invoke/MethodHandle" ∧ q.1.cls ≠ "java/lang/invoke/VarHandle") ∧ Cond.instantiable q.1.cls q.2 ∈ tables_1 ∧ Cond.privateMethod q.1 ∈ tables_1 ∧ Cond.instanceMethod q.1 ∈ tables_1
set_option maxRecDepth 100000
theorem lw_p0 : lw_okq (⟨"JumpGenerator", "apply", "(II)I"⟩, 5) := ⟨⟨by decide +kernel, by decide +kernel⟩, List.mem_of_getElem? (i := 4) rfl, List.mem_of_getElem? (i := 16) rfl, List.mem_of_getElem? (i := 17) rfl⟩
theorem lw_p1 : lw_okq (⟨"JumpGenerator", "wind", "(II)I"⟩, 5) := ⟨⟨by decide +kernel, by decide +kernel⟩, List.mem_of_getElem? (i := 4) rfl, List.mem_of_getElem? (i := 59) rfl, List.mem_of_getElem? (i := 60) rfl⟩
theorem lw_p2 : lw_okq (⟨"JumpGenerator", "steps", "(II)I"⟩, 5) := ⟨⟨by decide +kernel, by decide +kernel⟩, List.mem_of_getElem? (i := 4) rfl, List.mem_of_getElem? (i := 82) rfl, List.mem_of_getElem? (i := 83) rfl⟩
theorem lw_p3 : lw_okq (⟨"JumpGenerator", "noteFrom", "(I)V"⟩, 5) := ⟨⟨by decide +kernel, by decide +kernel⟩, List.mem_of_getElem? (i := 4) rfl, List.mem_of_getElem? (i := 86) rfl, List.mem_of_getElem? (i := 87) rfl⟩
theorem lw_p4 : lw_okq (⟨"JumpGenerator", "placeOf", "(I)I"⟩, 5) := ⟨⟨by decide +kernel, by decide +kernel⟩, List.mem_of_getElem? (i := 4) rfl, List.mem_of_getElem? (i := 90) rfl, List.mem_of_getElem? (i := 91) rfl⟩
theorem lw_p5 : lw_okq (⟨"JumpGeneratorModel", "isState", "(I)Z"⟩, 2) := ⟨⟨by decide +kernel, by decide +kernel⟩, List.mem_of_getElem? (i := 119) rfl, List.mem_of_getElem? (i := 136) rfl, List.mem_of_getElem? (i := 137) rfl⟩
theorem lw_p6 : lw_okq (⟨"JumpGeneratorModel", "step", "(I)I"⟩, 2) := ⟨⟨by decide +kernel, by decide +kernel⟩, List.mem_of_getElem? (i := 119) rfl, List.mem_of_getElem? (i := 149) rfl, List.mem_of_getElem? (i := 150) rfl⟩
theorem lw_p7 : lw_okq (⟨"JumpGeneratorModel", "near", "(I)Z"⟩, 2) := ⟨⟨by decide +kernel, by decide +kernel⟩, List.mem_of_getElem? (i := 119) rfl, List.mem_of_getElem? (i := 157) rfl, List.mem_of_getElem? (i := 158) rfl⟩
theorem lw_p8 : lw_okq (⟨"JumpGeneratorModel", "go", "(II)I"⟩, 2) := ⟨⟨by decide +kernel, by decide +kernel⟩, List.mem_of_getElem? (i := 119) rfl, List.mem_of_getElem? (i := 163) rfl, List.mem_of_getElem? (i := 164) rfl⟩
theorem lw_p9 : lw_okq (⟨"JumpGeneratorModel", "stepBack", "(I)I"⟩, 2) := ⟨⟨by decide +kernel, by decide +kernel⟩, List.mem_of_getElem? (i := 119) rfl, List.mem_of_getElem? (i := 167) rfl, List.mem_of_getElem? (i := 168) rfl⟩
theorem lw_p10 : lw_okq (⟨"JumpGeneratorModel", "holds", "(I)Z"⟩, 2) := ⟨⟨by decide +kernel, by decide +kernel⟩, List.mem_of_getElem? (i := 119) rfl, List.mem_of_getElem? (i := 183) rfl, List.mem_of_getElem? (i := 184) rfl⟩
theorem lw_p11 : lw_okq (⟨"JumpGeneratorModel", "steps", "(II)I"⟩, 2) := ⟨⟨by decide +kernel, by decide +kernel⟩, List.mem_of_getElem? (i := 119) rfl, List.mem_of_getElem? (i := 191) rfl, List.mem_of_getElem? (i := 192) rfl⟩
def lw_privs_1 : List (MethodName × Nat) := [(⟨"JumpGenerator", "apply", "(II)I"⟩, 5), (⟨"JumpGenerator", "wind", "(II)I"⟩, 5), (⟨"JumpGenerator", "steps", "(II)I"⟩, 5), (⟨"JumpGenerator", "noteFrom", "(I)V"⟩, 5), (⟨"JumpGenerator", "placeOf", "(I)I"⟩, 5), (⟨"JumpGeneratorModel", "isState", "(I)Z"⟩, 2), (⟨"JumpGeneratorModel", "step", "(I)I"⟩, 2), (⟨"JumpGeneratorModel", "near", "(I)Z"⟩, 2), (⟨"JumpGeneratorModel", "go", "(II)I"⟩, 2), (⟨"JumpGeneratorModel", "stepBack", "(I)I"⟩, 2), (⟨"JumpGeneratorModel", "holds", "(I)Z"⟩, 2), (⟨"JumpGeneratorModel", "steps", "(II)I"⟩, 2)]
theorem lw_r1 : ∀ q ∈ lw_privs_1, lw_okq q := List.forall_mem_cons.mpr ⟨lw_p0, List.forall_mem_cons.mpr ⟨lw_p1, List.forall_mem_cons.mpr ⟨lw_p2, List.forall_mem_cons.mpr ⟨lw_p3, List.forall_mem_cons.mpr ⟨lw_p4, List.forall_mem_cons.mpr ⟨lw_p5, List.forall_mem_cons.mpr ⟨lw_p6, List.forall_mem_cons.mpr ⟨lw_p7, List.forall_mem_cons.mpr ⟨lw_p8, List.forall_mem_cons.mpr ⟨lw_p9, List.forall_mem_cons.mpr ⟨lw_p10, List.forall_mem_cons.mpr ⟨lw_p11, fun _ h => absurd h List.not_mem_nil⟩⟩⟩⟩⟩⟩⟩⟩⟩⟩⟩⟩
def lw_privs : List (MethodName × Nat) := lw_privs_1
def lw_tbl : List Cond := k2_sels lw_privs ++ tables_1
theorem lw_privs_ok : ∀ q ∈ lw_privs, lw_okq q := lw_r1
-- ===== ONE list of words for every method: the tables' words that hold all through a run =====
def lw_all : List Cond := lw_tbl.filter goodWord
/-- a word of the tables by its place: claim/WORDS.tsv -/
theorem lw_w {w : Cond} (i : Nat) (h : lw_tbl[i]? = some w) (g : goodWord w = true) : w ∈ lw_all := List.mem_filter.mpr ⟨List.mem_of_getElem? h, g⟩
theorem lw_all_tbl {w : Cond} (h : w ∈ lw_all) : w ∈ lw_tbl := (List.mem_filter.mp h).1
theorem lw_self : GoodIn lw_all lw_all := fun w h => ⟨h, good_of_word (List.mem_filter.mp h).2⟩
/-- a class's field words, by their places -/
theorem lw_in (ws : List Cond) (ps : List Nat) (hp : ws = ps.filterMap (fun i => lw_tbl[i]?)) (hg : ws.all goodWord = true) : ∀ w ∈ ws, w ∈ lw_all := by
  intro w h
  have h1 := List.all_eq_true.mp hg w h
  rw [hp] at h
  obtain ⟨i, -, hi⟩ := List.mem_filterMap.mp h
  exact lw_w i hi h1
/-- the words of a contract for the method y with code b, L locals, answer r -/
abbrev ws_ (y : MethodName) (b : ByteArray) (L : Nat) (r : Option FieldType) : List Cond := Cond.code y b L r :: lw_all
theorem lw_meth {y : MethodName} {b : ByteArray} {L : Nat} {r : Option FieldType} (h : Cond.code y b L r ∈ lw_all) : GoodIn lw_all (ws_ y b L r) := by
  intro w hw
  rcases List.mem_cons.mp hw with e | e
  · rw [e]
    exact lw_self _ h
  · exact lw_self _ e
theorem lw_app {a c : List Cond} (ha : ∀ w ∈ a, w ∈ lw_all) (hc : GoodIn lw_all c) : GoodIn lw_all (a ++ c) := by
  intro w hw
  rcases List.mem_append.mp hw with e | e
  · exact lw_self w (ha w e)
  · exact hc w e
/-- what a call through an object asks: cwV n hts (lw_V ..) -/
theorem lw_V {own : String} {idx : Nat} {C : String} {y : MethodName} {b : ByteArray} {L : Nat} {r : Option FieldType} (h1 : Cond.methodLink own idx y ∈ lw_all) (h2 : Cond.instanceMethod y ∈ lw_all) (h3 : Cond.selects C y y ∈ lw_all) (h4 : Cond.initialized C ∈ lw_all) (h5 : Cond.code y b L r ∈ lw_all) : GoodIn lw_all (wsV own idx C y (ws_ y b L r)) := by
  refine lw_app ?_ (lw_meth h5)
  intro w hw
  simp only [List.mem_cons, List.not_mem_nil, or_false] at hw
  rcases hw with e | e | e | e
  · rw [e]; exact h1
  · rw [e]; exact h2
  · rw [e]; exact h3
  · rw [e]; exact h4
/-- what a static call asks: va_cwS n hts (lw_S ..) -/
theorem lw_S {own : String} {idx : Nat} {y : MethodName} {b : ByteArray} {L : Nat} {r : Option FieldType} (h1 : Cond.methodLink own idx y ∈ lw_all) (h2 : Cond.static y ∈ lw_all) (h3 : Cond.initialized y.cls ∈ lw_all) (h4 : Cond.code y b L r ∈ lw_all) : GoodIn lw_all (va_wsS own idx y (ws_ y b L r)) := by
  refine lw_app ?_ (lw_meth h4)
  intro w hw
  simp only [List.mem_cons, List.not_mem_nil, or_false] at hw
  rcases hw with e | e | e
  · rw [e]; exact h1
  · rw [e]; exact h2
  · rw [e]; exact h3
/-- the words of a contract for a method WITH HANDLERS (hh: its table) -/
abbrev wsW_ (y : MethodName) (b : ByteArray) (L : Nat) (r : Option FieldType) (hh : List (Nat × Nat × Nat × Nat)) : List Cond := Cond.codeWith y b L r hh :: lw_all
theorem lw_methW {y : MethodName} {b : ByteArray} {L : Nat} {r : Option FieldType} {hh : List (Nat × Nat × Nat × Nat)} (h : Cond.codeWith y b L r hh ∈ lw_all) : GoodIn lw_all (wsW_ y b L r hh) := by
  intro w hw
  rcases List.mem_cons.mp hw with e | e
  · rw [e]
    exact lw_self _ h
  · exact lw_self _ e
/-- any list of words by their places (lw_in), good -/
theorem lw_good {ws : List Cond} (h : ∀ w ∈ ws, w ∈ lw_all) : GoodIn lw_all ws := fun w hw => lw_self w (h w hw)
/-- what a call of a method with handlers asks: vx_cwVW n hts (lw_VW ..), vx_cwSW n hts (lw_SW ..) -/
theorem lw_VW {own : String} {idx : Nat} {C : String} {y : MethodName} {b : ByteArray} {L : Nat} {r : Option FieldType} {hh : List (Nat × Nat × Nat × Nat)} (h1 : Cond.methodLink own idx y ∈ lw_all) (h2 : Cond.instanceMethod y ∈ lw_all) (h3 : Cond.selects C y y ∈ lw_all) (h4 : Cond.initialized C ∈ lw_all) (h5 : Cond.codeWith y b L r hh ∈ lw_all) : GoodIn lw_all (wsV own idx C y (wsW_ y b L r hh)) := by
  refine lw_app ?_ (lw_methW h5)
  intro w hw
  simp only [List.mem_cons, List.not_mem_nil, or_false] at hw
  rcases hw with e | e | e | e
  · rw [e]; exact h1
  · rw [e]; exact h2
  · rw [e]; exact h3
  · rw [e]; exact h4
theorem lw_SW {own : String} {idx : Nat} {y : MethodName} {b : ByteArray} {L : Nat} {r : Option FieldType} {hh : List (Nat × Nat × Nat × Nat)} (h1 : Cond.methodLink own idx y ∈ lw_all) (h2 : Cond.static y ∈ lw_all) (h3 : Cond.initialized y.cls ∈ lw_all) (h4 : Cond.codeWith y b L r hh ∈ lw_all) : GoodIn lw_all (va_wsS own idx y (wsW_ y b L r hh)) := by
  refine lw_app ?_ (lw_methW h4)
  intro w hw
  simp only [List.mem_cons, List.not_mem_nil, or_false] at hw
  rcases hw with e | e | e
  · rw [e]; exact h1
  · rw [e]; exact h2
  · rw [e]; exact h3
/-- a word by its place in its run of the tables -/
theorem lw_at {r : List Cond} (hr : ∀ w ∈ r, w ∈ lw_tbl) {w : Cond} (i : Nat) (h : r[i]? = some w) : w ∈ lw_tbl := hr w (List.mem_of_getElem? h)
theorem lw_g {w : Cond} (h : w ∈ lw_tbl) (g : goodWord w = true) : w ∈ lw_all := List.mem_filter.mpr ⟨h, g⟩
theorem lw_ms : ∀ w ∈ k2_sels lw_privs, w ∈ lw_tbl := fun w h => show w ∈ k2_sels lw_privs ++ tables_1 from List.mem_append_left _ h
theorem lw_m0 : ∀ w ∈ tables_1, w ∈ lw_tbl := fun w h => show w ∈ k2_sels lw_privs ++ tables_1 from List.mem_append_right (k2_sels lw_privs) h
theorem qs0 : (Cond.selects "JumpGenerator" ⟨"JumpGenerator", "apply", "(II)I"⟩ ⟨"JumpGenerator", "apply", "(II)I"⟩) ∈ lw_all := lw_g (lw_at lw_ms 0 rfl) rfl
theorem qs1 : (Cond.selects "JumpGenerator" ⟨"JumpGenerator", "wind", "(II)I"⟩ ⟨"JumpGenerator", "wind", "(II)I"⟩) ∈ lw_all := lw_g (lw_at lw_ms 1 rfl) rfl
theorem qs2 : (Cond.selects "JumpGenerator" ⟨"JumpGenerator", "steps", "(II)I"⟩ ⟨"JumpGenerator", "steps", "(II)I"⟩) ∈ lw_all := lw_g (lw_at lw_ms 2 rfl) rfl
theorem qs3 : (Cond.selects "JumpGenerator" ⟨"JumpGenerator", "noteFrom", "(I)V"⟩ ⟨"JumpGenerator", "noteFrom", "(I)V"⟩) ∈ lw_all := lw_g (lw_at lw_ms 3 rfl) rfl
theorem qs4 : (Cond.selects "JumpGenerator" ⟨"JumpGenerator", "placeOf", "(I)I"⟩ ⟨"JumpGenerator", "placeOf", "(I)I"⟩) ∈ lw_all := lw_g (lw_at lw_ms 4 rfl) rfl
theorem qs5 : (Cond.selects "JumpGeneratorModel" ⟨"JumpGeneratorModel", "isState", "(I)Z"⟩ ⟨"JumpGeneratorModel", "isState", "(I)Z"⟩) ∈ lw_all := lw_g (lw_at lw_ms 5 rfl) rfl
theorem qs6 : (Cond.selects "JumpGeneratorModel" ⟨"JumpGeneratorModel", "step", "(I)I"⟩ ⟨"JumpGeneratorModel", "step", "(I)I"⟩) ∈ lw_all := lw_g (lw_at lw_ms 6 rfl) rfl
theorem qs7 : (Cond.selects "JumpGeneratorModel" ⟨"JumpGeneratorModel", "near", "(I)Z"⟩ ⟨"JumpGeneratorModel", "near", "(I)Z"⟩) ∈ lw_all := lw_g (lw_at lw_ms 7 rfl) rfl
theorem qs8 : (Cond.selects "JumpGeneratorModel" ⟨"JumpGeneratorModel", "go", "(II)I"⟩ ⟨"JumpGeneratorModel", "go", "(II)I"⟩) ∈ lw_all := lw_g (lw_at lw_ms 8 rfl) rfl
theorem qs9 : (Cond.selects "JumpGeneratorModel" ⟨"JumpGeneratorModel", "stepBack", "(I)I"⟩ ⟨"JumpGeneratorModel", "stepBack", "(I)I"⟩) ∈ lw_all := lw_g (lw_at lw_ms 9 rfl) rfl
theorem qs10 : (Cond.selects "JumpGeneratorModel" ⟨"JumpGeneratorModel", "holds", "(I)Z"⟩ ⟨"JumpGeneratorModel", "holds", "(I)Z"⟩) ∈ lw_all := lw_g (lw_at lw_ms 10 rfl) rfl
theorem qs11 : (Cond.selects "JumpGeneratorModel" ⟨"JumpGeneratorModel", "steps", "(II)I"⟩ ⟨"JumpGeneratorModel", "steps", "(II)I"⟩) ∈ lw_all := lw_g (lw_at lw_ms 11 rfl) rfl
end
section
/-! java/lang/Object -/
set_option maxRecDepth 100000
def RJ0 : String := "java/lang/Object"
abbrev cJ0_init : ByteArray := object_method_1_code
def yJ0_init : MethodName := ⟨RJ0, "<init>", "()V"⟩
theorem dJ0_init_0 : decode cJ0_init 0 = .ok (.return_, 1) := by decide +kernel
theorem q21 : (Jvm.Cond.instanceMethod ({ cls := "java/lang/Object", name := "<init>", desc := "()V" } : Jvm.MethodName)) ∈ lw_all := lw_g (lw_at lw_m0 9 rfl) rfl
theorem q22 : (Jvm.Cond.code ({ cls := "java/lang/Object", name := "<init>", desc := "()V" } : Jvm.MethodName) object_method_1_code (1 : Nat) (Option.none : Option Jvm.ClassFile.FieldType)) ∈ lw_all := lw_g (lw_at lw_m0 10 rfl) rfl
/-! JumpGenerator -/
set_option maxRecDepth 100000
def RX0 : String := "JumpGenerator"
def TX0 : u_T := fun k => match k with
  | 0 => ("JumpGenerator", "current", "I", false)
  | 1 => ("JumpGenerator", "marks", "[I", true)
  | 2 => ("JumpGenerator", "images", "[I", true)
  | 3 => ("JumpGenerator", "keyAt", "[I", true)
  | _ => ("JumpGenerator", "stepsAt", "[S", true)
def tyX0 : Nat → FieldType := fun k => match k with
  | 0 => .int
  | 1 => .array .int
  | 2 => .array .int
  | 3 => .array .int
  | _ => .array .short
abbrev wsX00 : List Cond := u_ws RX0 TX0 5
theorem nmX0 : ∀ a, a < 5 → ∀ b, b < 5 → a ≠ b → (TX0 a).2.1 ≠ (TX0 b).2.1 := by decide +kernel
theorem tyX0_ok : ∀ k, k < 5 → parseFieldDescriptor (TX0 k).2.2.1 = some (tyX0 k) := by decide +kernel
abbrev cX0_init : ByteArray := prog_1_method_1_code
def yX0_init : MethodName := ⟨RX0, "<init>", "()V"⟩
theorem dX0_init_0 : decode cX0_init 0 = .ok (.aload_n 0, 1) := by decide +kernel
theorem dX0_init_1 : decode cX0_init 1 = .ok (.invokespecial 1, 3) := by decide +kernel
theorem dX0_init_4 : decode cX0_init 4 = .ok (.aload_n 0, 1) := by decide +kernel
theorem dX0_init_5 : decode cX0_init 5 = .ok (.iconst 1, 1) := by decide +kernel
theorem dX0_init_6 : decode cX0_init 6 = .ok (.putfield 7, 3) := by decide +kernel
theorem dX0_init_9 : decode cX0_init 9 = .ok (.aload_n 0, 1) := by decide +kernel
theorem dX0_init_10 : decode cX0_init 10 = .ok (.bipush 8, 2) := by decide +kernel
theorem dX0_init_12 : decode cX0_init 12 = .ok (.newarray .int, 2) := by decide +kernel
theorem dX0_init_14 : decode cX0_init 14 = .ok (.putfield 13, 3) := by decide +kernel
theorem dX0_init_17 : decode cX0_init 17 = .ok (.aload_n 0, 1) := by decide +kernel
theorem dX0_init_18 : decode cX0_init 18 = .ok (.sipush 272, 3) := by decide +kernel
theorem dX0_init_21 : decode cX0_init 21 = .ok (.newarray .int, 2) := by decide +kernel
theorem dX0_init_23 : decode cX0_init 23 = .ok (.putfield 17, 3) := by decide +kernel
theorem dX0_init_26 : decode cX0_init 26 = .ok (.aload_n 0, 1) := by decide +kernel
theorem dX0_init_27 : decode cX0_init 27 = .ok (.sipush 1024, 3) := by decide +kernel
theorem dX0_init_30 : decode cX0_init 30 = .ok (.newarray .int, 2) := by decide +kernel
theorem dX0_init_32 : decode cX0_init 32 = .ok (.putfield 20, 3) := by decide +kernel
theorem dX0_init_35 : decode cX0_init 35 = .ok (.aload_n 0, 1) := by decide +kernel
theorem dX0_init_36 : decode cX0_init 36 = .ok (.sipush 1024, 3) := by decide +kernel
theorem dX0_init_39 : decode cX0_init 39 = .ok (.newarray .short, 2) := by decide +kernel
theorem dX0_init_41 : decode cX0_init 41 = .ok (.putfield 23, 3) := by decide +kernel
theorem dX0_init_44 : decode cX0_init 44 = .ok (.iconst 0, 1) := by decide +kernel
theorem dX0_init_45 : decode cX0_init 45 = .ok (.istore_n 1, 1) := by decide +kernel
theorem dX0_init_46 : decode cX0_init 46 = .ok (.iload_n 1, 1) := by decide +kernel
theorem dX0_init_47 : decode cX0_init 47 = .ok (.bipush 16, 2) := by decide +kernel
theorem dX0_init_49 : decode cX0_init 49 = .ok (.if_icmp .ge 21, 3) := by decide +kernel
theorem dX0_init_52 : decode cX0_init 52 = .ok (.aload_n 0, 1) := by decide +kernel
theorem dX0_init_53 : decode cX0_init 53 = .ok (.getfield 17, 3) := by decide +kernel
theorem dX0_init_56 : decode cX0_init 56 = .ok (.iload_n 1, 1) := by decide +kernel
theorem dX0_init_57 : decode cX0_init 57 = .ok (.iconst 1, 1) := by decide +kernel
theorem dX0_init_58 : decode cX0_init 58 = .ok (.iload_n 1, 1) := by decide +kernel
theorem dX0_init_59 : decode cX0_init 59 = .ok (.ishl, 1) := by decide +kernel
theorem dX0_init_60 : decode cX0_init 60 = .ok (.invokestatic 27, 3) := by decide +kernel
theorem dX0_init_63 : decode cX0_init 63 = .ok (.iastore, 1) := by decide +kernel
theorem dX0_init_64 : decode cX0_init 64 = .ok (.iinc 1 1, 3) := by decide +kernel
theorem dX0_init_67 : decode cX0_init 67 = .ok (.goto (-21), 3) := by decide +kernel
theorem dX0_init_70 : decode cX0_init 70 = .ok (.iconst 1, 1) := by decide +kernel
theorem dX0_init_71 : decode cX0_init 71 = .ok (.istore_n 1, 1) := by decide +kernel
theorem dX0_init_72 : decode cX0_init 72 = .ok (.iload_n 1, 1) := by decide +kernel
theorem dX0_init_73 : decode cX0_init 73 = .ok (.bipush 16, 2) := by decide +kernel
theorem dX0_init_75 : decode cX0_init 75 = .ok (.if_icmp .gt 56, 3) := by decide +kernel
theorem dX0_init_78 : decode cX0_init 78 = .ok (.iconst 0, 1) := by decide +kernel
theorem dX0_init_79 : decode cX0_init 79 = .ok (.istore_n 2, 1) := by decide +kernel
theorem dX0_init_80 : decode cX0_init 80 = .ok (.iload_n 2, 1) := by decide +kernel
theorem dX0_init_81 : decode cX0_init 81 = .ok (.bipush 16, 2) := by decide +kernel
theorem dX0_init_83 : decode cX0_init 83 = .ok (.if_icmp .ge 42, 3) := by decide +kernel
theorem dX0_init_86 : decode cX0_init 86 = .ok (.aload_n 0, 1) := by decide +kernel
theorem dX0_init_87 : decode cX0_init 87 = .ok (.getfield 17, 3) := by decide +kernel
theorem dX0_init_90 : decode cX0_init 90 = .ok (.iload_n 1, 1) := by decide +kernel
theorem dX0_init_91 : decode cX0_init 91 = .ok (.iconst 1, 1) := by decide +kernel
theorem dX0_init_92 : decode cX0_init 92 = .ok (.isub, 1) := by decide +kernel
theorem dX0_init_93 : decode cX0_init 93 = .ok (.bipush 16, 2) := by decide +kernel
theorem dX0_init_95 : decode cX0_init 95 = .ok (.imul, 1) := by decide +kernel
theorem dX0_init_96 : decode cX0_init 96 = .ok (.iload_n 2, 1) := by decide +kernel
theorem dX0_init_97 : decode cX0_init 97 = .ok (.iadd, 1) := by decide +kernel
theorem dX0_init_98 : decode cX0_init 98 = .ok (.iaload, 1) := by decide +kernel
theorem dX0_init_99 : decode cX0_init 99 = .ok (.istore_n 3, 1) := by decide +kernel
theorem dX0_init_100 : decode cX0_init 100 = .ok (.aload_n 0, 1) := by decide +kernel
theorem dX0_init_101 : decode cX0_init 101 = .ok (.getfield 17, 3) := by decide +kernel
theorem dX0_init_104 : decode cX0_init 104 = .ok (.iload_n 1, 1) := by decide +kernel
theorem dX0_init_105 : decode cX0_init 105 = .ok (.bipush 16, 2) := by decide +kernel
theorem dX0_init_107 : decode cX0_init 107 = .ok (.imul, 1) := by decide +kernel
theorem dX0_init_108 : decode cX0_init 108 = .ok (.iload_n 2, 1) := by decide +kernel
theorem dX0_init_109 : decode cX0_init 109 = .ok (.iadd, 1) := by decide +kernel
theorem dX0_init_110 : decode cX0_init 110 = .ok (.aload_n 0, 1) := by decide +kernel
theorem dX0_init_111 : decode cX0_init 111 = .ok (.iload_n 1, 1) := by decide +kernel
theorem dX0_init_112 : decode cX0_init 112 = .ok (.iconst 1, 1) := by decide +kernel
theorem dX0_init_113 : decode cX0_init 113 = .ok (.isub, 1) := by decide +kernel
theorem dX0_init_114 : decode cX0_init 114 = .ok (.iload_n 3, 1) := by decide +kernel
theorem dX0_init_115 : decode cX0_init 115 = .ok (.invokevirtual 31, 3) := by decide +kernel
theorem dX0_init_118 : decode cX0_init 118 = .ok (.iastore, 1) := by decide +kernel
theorem dX0_init_119 : decode cX0_init 119 = .ok (.iinc 2 1, 3) := by decide +kernel
theorem dX0_init_122 : decode cX0_init 122 = .ok (.goto (-42), 3) := by decide +kernel
theorem dX0_init_125 : decode cX0_init 125 = .ok (.iinc 1 1, 3) := by decide +kernel
theorem dX0_init_128 : decode cX0_init 128 = .ok (.goto (-56), 3) := by decide +kernel
theorem dX0_init_131 : decode cX0_init 131 = .ok (.return_, 1) := by decide +kernel
abbrev cX0_step : ByteArray := prog_1_method_2_code
def yX0_step : MethodName := ⟨RX0, "step", "(I)I"⟩
theorem dX0_step_0 : decode cX0_step 0 = .ok (.iload_n 0, 1) := by decide +kernel
theorem dX0_step_1 : decode cX0_step 1 = .ok (.istore_n 1, 1) := by decide +kernel
theorem dX0_step_2 : decode cX0_step 2 = .ok (.iload_n 1, 1) := by decide +kernel
theorem dX0_step_3 : decode cX0_step 3 = .ok (.iload_n 1, 1) := by decide +kernel
theorem dX0_step_4 : decode cX0_step 4 = .ok (.bipush 7, 2) := by decide +kernel
theorem dX0_step_6 : decode cX0_step 6 = .ok (.ishl, 1) := by decide +kernel
theorem dX0_step_7 : decode cX0_step 7 = .ok (.ldc 35, 2) := by decide +kernel
theorem dX0_step_9 : decode cX0_step 9 = .ok (.iand, 1) := by decide +kernel
theorem dX0_step_10 : decode cX0_step 10 = .ok (.ixor, 1) := by decide +kernel
theorem dX0_step_11 : decode cX0_step 11 = .ok (.istore_n 1, 1) := by decide +kernel
theorem dX0_step_12 : decode cX0_step 12 = .ok (.iload_n 1, 1) := by decide +kernel
theorem dX0_step_13 : decode cX0_step 13 = .ok (.iload_n 1, 1) := by decide +kernel
theorem dX0_step_14 : decode cX0_step 14 = .ok (.bipush 9, 2) := by decide +kernel
theorem dX0_step_16 : decode cX0_step 16 = .ok (.ishr, 1) := by decide +kernel
theorem dX0_step_17 : decode cX0_step 17 = .ok (.ixor, 1) := by decide +kernel
theorem dX0_step_18 : decode cX0_step 18 = .ok (.istore_n 1, 1) := by decide +kernel
theorem dX0_step_19 : decode cX0_step 19 = .ok (.iload_n 1, 1) := by decide +kernel
theorem dX0_step_20 : decode cX0_step 20 = .ok (.iload_n 1, 1) := by decide +kernel
theorem dX0_step_21 : decode cX0_step 21 = .ok (.bipush 8, 2) := by decide +kernel
theorem dX0_step_23 : decode cX0_step 23 = .ok (.ishl, 1) := by decide +kernel
theorem dX0_step_24 : decode cX0_step 24 = .ok (.ldc 35, 2) := by decide +kernel
theorem dX0_step_26 : decode cX0_step 26 = .ok (.iand, 1) := by decide +kernel
theorem dX0_step_27 : decode cX0_step 27 = .ok (.ixor, 1) := by decide +kernel
theorem dX0_step_28 : decode cX0_step 28 = .ok (.ireturn, 1) := by decide +kernel
abbrev cX0_apply : ByteArray := prog_1_method_3_code
def yX0_apply : MethodName := ⟨RX0, "apply", "(II)I"⟩
theorem dX0_apply_0 : decode cX0_apply 0 = .ok (.iconst 0, 1) := by decide +kernel
theorem dX0_apply_1 : decode cX0_apply 1 = .ok (.istore_n 3, 1) := by decide +kernel
theorem dX0_apply_2 : decode cX0_apply 2 = .ok (.iconst 0, 1) := by decide +kernel
theorem dX0_apply_3 : decode cX0_apply 3 = .ok (.istore 4, 2) := by decide +kernel
theorem dX0_apply_5 : decode cX0_apply 5 = .ok (.iload 4, 2) := by decide +kernel
theorem dX0_apply_7 : decode cX0_apply 7 = .ok (.bipush 16, 2) := by decide +kernel
theorem dX0_apply_9 : decode cX0_apply 9 = .ok (.if_icmp .ge 33, 3) := by decide +kernel
theorem dX0_apply_12 : decode cX0_apply 12 = .ok (.iload_n 2, 1) := by decide +kernel
theorem dX0_apply_13 : decode cX0_apply 13 = .ok (.iload 4, 2) := by decide +kernel
theorem dX0_apply_15 : decode cX0_apply 15 = .ok (.ishr, 1) := by decide +kernel
theorem dX0_apply_16 : decode cX0_apply 16 = .ok (.iconst 1, 1) := by decide +kernel
theorem dX0_apply_17 : decode cX0_apply 17 = .ok (.iand, 1) := by decide +kernel
theorem dX0_apply_18 : decode cX0_apply 18 = .ok (.ifCond .eq 18, 3) := by decide +kernel
theorem dX0_apply_21 : decode cX0_apply 21 = .ok (.iload_n 3, 1) := by decide +kernel
theorem dX0_apply_22 : decode cX0_apply 22 = .ok (.aload_n 0, 1) := by decide +kernel
theorem dX0_apply_23 : decode cX0_apply 23 = .ok (.getfield 17, 3) := by decide +kernel
theorem dX0_apply_26 : decode cX0_apply 26 = .ok (.iload_n 1, 1) := by decide +kernel
theorem dX0_apply_27 : decode cX0_apply 27 = .ok (.bipush 16, 2) := by decide +kernel
theorem dX0_apply_29 : decode cX0_apply 29 = .ok (.imul, 1) := by decide +kernel
theorem dX0_apply_30 : decode cX0_apply 30 = .ok (.iload 4, 2) := by decide +kernel
theorem dX0_apply_32 : decode cX0_apply 32 = .ok (.iadd, 1) := by decide +kernel
theorem dX0_apply_33 : decode cX0_apply 33 = .ok (.iaload, 1) := by decide +kernel
theorem dX0_apply_34 : decode cX0_apply 34 = .ok (.ixor, 1) := by decide +kernel
theorem dX0_apply_35 : decode cX0_apply 35 = .ok (.istore_n 3, 1) := by decide +kernel
theorem dX0_apply_36 : decode cX0_apply 36 = .ok (.iinc 4 1, 3) := by decide +kernel
theorem dX0_apply_39 : decode cX0_apply 39 = .ok (.goto (-34), 3) := by decide +kernel
theorem dX0_apply_42 : decode cX0_apply 42 = .ok (.iload_n 3, 1) := by decide +kernel
theorem dX0_apply_43 : decode cX0_apply 43 = .ok (.ireturn, 1) := by decide +kernel
abbrev cX0_seed : ByteArray := prog_1_method_7_code
def yX0_seed : MethodName := ⟨RX0, "seed", "(I)Z"⟩
theorem dX0_seed_0 : decode cX0_seed 0 = .ok (.iload_n 1, 1) := by decide +kernel
theorem dX0_seed_1 : decode cX0_seed 1 = .ok (.invokestatic 36, 3) := by decide +kernel
theorem dX0_seed_4 : decode cX0_seed 4 = .ok (.ifCond .ne 5, 3) := by decide +kernel
theorem dX0_seed_7 : decode cX0_seed 7 = .ok (.iconst 0, 1) := by decide +kernel
theorem dX0_seed_8 : decode cX0_seed 8 = .ok (.ireturn, 1) := by decide +kernel
theorem dX0_seed_9 : decode cX0_seed 9 = .ok (.aload_n 0, 1) := by decide +kernel
theorem dX0_seed_10 : decode cX0_seed 10 = .ok (.iload_n 1, 1) := by decide +kernel
theorem dX0_seed_11 : decode cX0_seed 11 = .ok (.putfield 7, 3) := by decide +kernel
theorem dX0_seed_14 : decode cX0_seed 14 = .ok (.iconst 1, 1) := by decide +kernel
theorem dX0_seed_15 : decode cX0_seed 15 = .ok (.ireturn, 1) := by decide +kernel
abbrev cX0_isState : ByteArray := prog_1_method_5_code
def yX0_isState : MethodName := ⟨RX0, "isState", "(I)Z"⟩
theorem dX0_isState_0 : decode cX0_isState 0 = .ok (.iload_n 0, 1) := by decide +kernel
theorem dX0_isState_1 : decode cX0_isState 1 = .ok (.iconst 1, 1) := by decide +kernel
theorem dX0_isState_2 : decode cX0_isState 2 = .ok (.if_icmp .lt 13, 3) := by decide +kernel
theorem dX0_isState_5 : decode cX0_isState 5 = .ok (.iload_n 0, 1) := by decide +kernel
theorem dX0_isState_6 : decode cX0_isState 6 = .ok (.ldc 35, 2) := by decide +kernel
theorem dX0_isState_8 : decode cX0_isState 8 = .ok (.if_icmp .gt 7, 3) := by decide +kernel
theorem dX0_isState_11 : decode cX0_isState 11 = .ok (.iconst 1, 1) := by decide +kernel
theorem dX0_isState_12 : decode cX0_isState 12 = .ok (.goto 4, 3) := by decide +kernel
theorem dX0_isState_15 : decode cX0_isState 15 = .ok (.iconst 0, 1) := by decide +kernel
theorem dX0_isState_16 : decode cX0_isState 16 = .ok (.ireturn, 1) := by decide +kernel
abbrev cX0_state : ByteArray := prog_1_method_8_code
def yX0_state : MethodName := ⟨RX0, "state", "()I"⟩
theorem dX0_state_0 : decode cX0_state 0 = .ok (.aload_n 0, 1) := by decide +kernel
theorem dX0_state_1 : decode cX0_state 1 = .ok (.getfield 7, 3) := by decide +kernel
theorem dX0_state_4 : decode cX0_state 4 = .ok (.ireturn, 1) := by decide +kernel
abbrev cX0_next : ByteArray := prog_1_method_9_code
def yX0_next : MethodName := ⟨RX0, "next", "()I"⟩
theorem dX0_next_0 : decode cX0_next 0 = .ok (.aload_n 0, 1) := by decide +kernel
theorem dX0_next_1 : decode cX0_next 1 = .ok (.aload_n 0, 1) := by decide +kernel
theorem dX0_next_2 : decode cX0_next 2 = .ok (.getfield 7, 3) := by decide +kernel
theorem dX0_next_5 : decode cX0_next 5 = .ok (.invokestatic 27, 3) := by decide +kernel
theorem dX0_next_8 : decode cX0_next 8 = .ok (.putfield 7, 3) := by decide +kernel
theorem dX0_next_11 : decode cX0_next 11 = .ok (.aload_n 0, 1) := by decide +kernel
theorem dX0_next_12 : decode cX0_next 12 = .ok (.getfield 7, 3) := by decide +kernel
theorem dX0_next_15 : decode cX0_next 15 = .ok (.ireturn, 1) := by decide +kernel
abbrev cX0_jump : ByteArray := prog_1_method_10_code
def yX0_jump : MethodName := ⟨RX0, "jump", "(I)I"⟩
theorem dX0_jump_0 : decode cX0_jump 0 = .ok (.iload_n 1, 1) := by decide +kernel
theorem dX0_jump_1 : decode cX0_jump 1 = .ok (.ldc 40, 2) := by decide +kernel
theorem dX0_jump_3 : decode cX0_jump 3 = .ok (.if_icmp .lt 9, 3) := by decide +kernel
theorem dX0_jump_6 : decode cX0_jump 6 = .ok (.iload_n 1, 1) := by decide +kernel
theorem dX0_jump_7 : decode cX0_jump 7 = .ok (.ldc 41, 2) := by decide +kernel
theorem dX0_jump_9 : decode cX0_jump 9 = .ok (.if_icmp .le 5, 3) := by decide +kernel
theorem dX0_jump_12 : decode cX0_jump 12 = .ok (.iconst (-1), 1) := by decide +kernel
theorem dX0_jump_13 : decode cX0_jump 13 = .ok (.ireturn, 1) := by decide +kernel
theorem dX0_jump_14 : decode cX0_jump 14 = .ok (.aload_n 0, 1) := by decide +kernel
theorem dX0_jump_15 : decode cX0_jump 15 = .ok (.aload_n 0, 1) := by decide +kernel
theorem dX0_jump_16 : decode cX0_jump 16 = .ok (.aload_n 0, 1) := by decide +kernel
theorem dX0_jump_17 : decode cX0_jump 17 = .ok (.getfield 7, 3) := by decide +kernel
theorem dX0_jump_20 : decode cX0_jump 20 = .ok (.iload_n 1, 1) := by decide +kernel
theorem dX0_jump_21 : decode cX0_jump 21 = .ok (.invokevirtual 42, 3) := by decide +kernel
theorem dX0_jump_24 : decode cX0_jump 24 = .ok (.putfield 7, 3) := by decide +kernel
theorem dX0_jump_27 : decode cX0_jump 27 = .ok (.aload_n 0, 1) := by decide +kernel
theorem dX0_jump_28 : decode cX0_jump 28 = .ok (.getfield 7, 3) := by decide +kernel
theorem dX0_jump_31 : decode cX0_jump 31 = .ok (.ireturn, 1) := by decide +kernel
abbrev cX0_wind : ByteArray := prog_1_method_4_code
def yX0_wind : MethodName := ⟨RX0, "wind", "(II)I"⟩
theorem dX0_wind_0 : decode cX0_wind 0 = .ok (.iload_n 2, 1) := by decide +kernel
theorem dX0_wind_1 : decode cX0_wind 1 = .ok (.ldc 35, 2) := by decide +kernel
theorem dX0_wind_3 : decode cX0_wind 3 = .ok (.irem, 1) := by decide +kernel
theorem dX0_wind_4 : decode cX0_wind 4 = .ok (.istore_n 3, 1) := by decide +kernel
theorem dX0_wind_5 : decode cX0_wind 5 = .ok (.iload_n 3, 1) := by decide +kernel
theorem dX0_wind_6 : decode cX0_wind 6 = .ok (.ifCond .ge 10, 3) := by decide +kernel
theorem dX0_wind_9 : decode cX0_wind 9 = .ok (.iload_n 3, 1) := by decide +kernel
theorem dX0_wind_10 : decode cX0_wind 10 = .ok (.ldc 35, 2) := by decide +kernel
theorem dX0_wind_12 : decode cX0_wind 12 = .ok (.iadd, 1) := by decide +kernel
theorem dX0_wind_13 : decode cX0_wind 13 = .ok (.goto 4, 3) := by decide +kernel
theorem dX0_wind_16 : decode cX0_wind 16 = .ok (.iload_n 3, 1) := by decide +kernel
theorem dX0_wind_17 : decode cX0_wind 17 = .ok (.istore_n 3, 1) := by decide +kernel
theorem dX0_wind_18 : decode cX0_wind 18 = .ok (.iload_n 1, 1) := by decide +kernel
theorem dX0_wind_19 : decode cX0_wind 19 = .ok (.istore 4, 2) := by decide +kernel
theorem dX0_wind_21 : decode cX0_wind 21 = .ok (.iconst 0, 1) := by decide +kernel
theorem dX0_wind_22 : decode cX0_wind 22 = .ok (.istore 5, 2) := by decide +kernel
theorem dX0_wind_24 : decode cX0_wind 24 = .ok (.iload 5, 2) := by decide +kernel
theorem dX0_wind_26 : decode cX0_wind 26 = .ok (.bipush 16, 2) := by decide +kernel
theorem dX0_wind_28 : decode cX0_wind 28 = .ok (.if_icmp .ge 28, 3) := by decide +kernel
theorem dX0_wind_31 : decode cX0_wind 31 = .ok (.iload_n 3, 1) := by decide +kernel
theorem dX0_wind_32 : decode cX0_wind 32 = .ok (.iload 5, 2) := by decide +kernel
theorem dX0_wind_34 : decode cX0_wind 34 = .ok (.ishr, 1) := by decide +kernel
theorem dX0_wind_35 : decode cX0_wind 35 = .ok (.iconst 1, 1) := by decide +kernel
theorem dX0_wind_36 : decode cX0_wind 36 = .ok (.iand, 1) := by decide +kernel
theorem dX0_wind_37 : decode cX0_wind 37 = .ok (.ifCond .eq 13, 3) := by decide +kernel
theorem dX0_wind_40 : decode cX0_wind 40 = .ok (.aload_n 0, 1) := by decide +kernel
theorem dX0_wind_41 : decode cX0_wind 41 = .ok (.iload 5, 2) := by decide +kernel
theorem dX0_wind_43 : decode cX0_wind 43 = .ok (.iload 4, 2) := by decide +kernel
theorem dX0_wind_45 : decode cX0_wind 45 = .ok (.invokevirtual 31, 3) := by decide +kernel
theorem dX0_wind_48 : decode cX0_wind 48 = .ok (.istore 4, 2) := by decide +kernel
theorem dX0_wind_50 : decode cX0_wind 50 = .ok (.iinc 5 1, 3) := by decide +kernel
theorem dX0_wind_53 : decode cX0_wind 53 = .ok (.goto (-29), 3) := by decide +kernel
theorem dX0_wind_56 : decode cX0_wind 56 = .ok (.iload 4, 2) := by decide +kernel
theorem dX0_wind_58 : decode cX0_wind 58 = .ok (.ireturn, 1) := by decide +kernel
abbrev cX0_peek : ByteArray := prog_1_method_11_code
def yX0_peek : MethodName := ⟨RX0, "peek", "(I)I"⟩
theorem dX0_peek_0 : decode cX0_peek 0 = .ok (.iload_n 1, 1) := by decide +kernel
theorem dX0_peek_1 : decode cX0_peek 1 = .ok (.ldc 40, 2) := by decide +kernel
theorem dX0_peek_3 : decode cX0_peek 3 = .ok (.if_icmp .lt 9, 3) := by decide +kernel
theorem dX0_peek_6 : decode cX0_peek 6 = .ok (.iload_n 1, 1) := by decide +kernel
theorem dX0_peek_7 : decode cX0_peek 7 = .ok (.ldc 41, 2) := by decide +kernel
theorem dX0_peek_9 : decode cX0_peek 9 = .ok (.if_icmp .le 7, 3) := by decide +kernel
theorem dX0_peek_12 : decode cX0_peek 12 = .ok (.iconst (-1), 1) := by decide +kernel
theorem dX0_peek_13 : decode cX0_peek 13 = .ok (.goto 12, 3) := by decide +kernel
theorem dX0_peek_16 : decode cX0_peek 16 = .ok (.aload_n 0, 1) := by decide +kernel
theorem dX0_peek_17 : decode cX0_peek 17 = .ok (.aload_n 0, 1) := by decide +kernel
theorem dX0_peek_18 : decode cX0_peek 18 = .ok (.getfield 7, 3) := by decide +kernel
theorem dX0_peek_21 : decode cX0_peek 21 = .ok (.iload_n 1, 1) := by decide +kernel
theorem dX0_peek_22 : decode cX0_peek 22 = .ok (.invokevirtual 42, 3) := by decide +kernel
theorem dX0_peek_25 : decode cX0_peek 25 = .ok (.ireturn, 1) := by decide +kernel
abbrev cX0_mark : ByteArray := prog_1_method_12_code
def yX0_mark : MethodName := ⟨RX0, "mark", "(I)Z"⟩
theorem dX0_mark_0 : decode cX0_mark 0 = .ok (.iload_n 1, 1) := by decide +kernel
theorem dX0_mark_1 : decode cX0_mark 1 = .ok (.invokestatic 45, 3) := by decide +kernel
theorem dX0_mark_4 : decode cX0_mark 4 = .ok (.ifCond .ne 5, 3) := by decide +kernel
theorem dX0_mark_7 : decode cX0_mark 7 = .ok (.iconst 0, 1) := by decide +kernel
theorem dX0_mark_8 : decode cX0_mark 8 = .ok (.ireturn, 1) := by decide +kernel
theorem dX0_mark_9 : decode cX0_mark 9 = .ok (.aload_n 0, 1) := by decide +kernel
theorem dX0_mark_10 : decode cX0_mark 10 = .ok (.getfield 13, 3) := by decide +kernel
theorem dX0_mark_13 : decode cX0_mark 13 = .ok (.iload_n 1, 1) := by decide +kernel
theorem dX0_mark_14 : decode cX0_mark 14 = .ok (.aload_n 0, 1) := by decide +kernel
theorem dX0_mark_15 : decode cX0_mark 15 = .ok (.getfield 7, 3) := by decide +kernel
theorem dX0_mark_18 : decode cX0_mark 18 = .ok (.iastore, 1) := by decide +kernel
theorem dX0_mark_19 : decode cX0_mark 19 = .ok (.iconst 1, 1) := by decide +kernel
theorem dX0_mark_20 : decode cX0_mark 20 = .ok (.ireturn, 1) := by decide +kernel
abbrev cX0_isMark : ByteArray := prog_1_method_6_code
def yX0_isMark : MethodName := ⟨RX0, "isMark", "(I)Z"⟩
theorem dX0_isMark_0 : decode cX0_isMark 0 = .ok (.iload_n 0, 1) := by decide +kernel
theorem dX0_isMark_1 : decode cX0_isMark 1 = .ok (.ifCond .lt 13, 3) := by decide +kernel
theorem dX0_isMark_4 : decode cX0_isMark 4 = .ok (.iload_n 0, 1) := by decide +kernel
theorem dX0_isMark_5 : decode cX0_isMark 5 = .ok (.bipush 8, 2) := by decide +kernel
theorem dX0_isMark_7 : decode cX0_isMark 7 = .ok (.if_icmp .ge 7, 3) := by decide +kernel
theorem dX0_isMark_10 : decode cX0_isMark 10 = .ok (.iconst 1, 1) := by decide +kernel
theorem dX0_isMark_11 : decode cX0_isMark 11 = .ok (.goto 4, 3) := by decide +kernel
theorem dX0_isMark_14 : decode cX0_isMark 14 = .ok (.iconst 0, 1) := by decide +kernel
theorem dX0_isMark_15 : decode cX0_isMark 15 = .ok (.ireturn, 1) := by decide +kernel
abbrev cX0_back : ByteArray := prog_1_method_13_code
def yX0_back : MethodName := ⟨RX0, "back", "(I)Z"⟩
theorem dX0_back_0 : decode cX0_back 0 = .ok (.iload_n 1, 1) := by decide +kernel
theorem dX0_back_1 : decode cX0_back 1 = .ok (.invokestatic 45, 3) := by decide +kernel
theorem dX0_back_4 : decode cX0_back 4 = .ok (.ifCond .eq 12, 3) := by decide +kernel
theorem dX0_back_7 : decode cX0_back 7 = .ok (.aload_n 0, 1) := by decide +kernel
theorem dX0_back_8 : decode cX0_back 8 = .ok (.getfield 13, 3) := by decide +kernel
theorem dX0_back_11 : decode cX0_back 11 = .ok (.iload_n 1, 1) := by decide +kernel
theorem dX0_back_12 : decode cX0_back 12 = .ok (.iaload, 1) := by decide +kernel
theorem dX0_back_13 : decode cX0_back 13 = .ok (.ifCond .ne 5, 3) := by decide +kernel
theorem dX0_back_16 : decode cX0_back 16 = .ok (.iconst 0, 1) := by decide +kernel
theorem dX0_back_17 : decode cX0_back 17 = .ok (.ireturn, 1) := by decide +kernel
theorem dX0_back_18 : decode cX0_back 18 = .ok (.aload_n 0, 1) := by decide +kernel
theorem dX0_back_19 : decode cX0_back 19 = .ok (.aload_n 0, 1) := by decide +kernel
theorem dX0_back_20 : decode cX0_back 20 = .ok (.getfield 13, 3) := by decide +kernel
theorem dX0_back_23 : decode cX0_back 23 = .ok (.iload_n 1, 1) := by decide +kernel
theorem dX0_back_24 : decode cX0_back 24 = .ok (.iaload, 1) := by decide +kernel
theorem dX0_back_25 : decode cX0_back 25 = .ok (.putfield 7, 3) := by decide +kernel
theorem dX0_back_28 : decode cX0_back 28 = .ok (.iconst 1, 1) := by decide +kernel
theorem dX0_back_29 : decode cX0_back 29 = .ok (.ireturn, 1) := by decide +kernel
abbrev cX0_distance : ByteArray := prog_1_method_17_code
def yX0_distance : MethodName := ⟨RX0, "distance", "(I)I"⟩
theorem dX0_distance_0 : decode cX0_distance 0 = .ok (.iload_n 1, 1) := by decide +kernel
theorem dX0_distance_1 : decode cX0_distance 1 = .ok (.invokestatic 36, 3) := by decide +kernel
theorem dX0_distance_4 : decode cX0_distance 4 = .ok (.ifCond .eq 15, 3) := by decide +kernel
theorem dX0_distance_7 : decode cX0_distance 7 = .ok (.aload_n 0, 1) := by decide +kernel
theorem dX0_distance_8 : decode cX0_distance 8 = .ok (.aload_n 0, 1) := by decide +kernel
theorem dX0_distance_9 : decode cX0_distance 9 = .ok (.getfield 7, 3) := by decide +kernel
theorem dX0_distance_12 : decode cX0_distance 12 = .ok (.iload_n 1, 1) := by decide +kernel
theorem dX0_distance_13 : decode cX0_distance 13 = .ok (.invokevirtual 56, 3) := by decide +kernel
theorem dX0_distance_16 : decode cX0_distance 16 = .ok (.goto 4, 3) := by decide +kernel
theorem dX0_distance_19 : decode cX0_distance 19 = .ok (.iconst (-1), 1) := by decide +kernel
theorem dX0_distance_20 : decode cX0_distance 20 = .ok (.ireturn, 1) := by decide +kernel
abbrev cX0_steps : ByteArray := prog_1_method_16_code
def yX0_steps : MethodName := ⟨RX0, "steps", "(II)I"⟩
theorem dX0_steps_0 : decode cX0_steps 0 = .ok (.iload_n 1, 1) := by decide +kernel
theorem dX0_steps_1 : decode cX0_steps 1 = .ok (.iload_n 2, 1) := by decide +kernel
theorem dX0_steps_2 : decode cX0_steps 2 = .ok (.if_icmp .ne 5, 3) := by decide +kernel
theorem dX0_steps_5 : decode cX0_steps 5 = .ok (.iconst 0, 1) := by decide +kernel
theorem dX0_steps_6 : decode cX0_steps 6 = .ok (.ireturn, 1) := by decide +kernel
theorem dX0_steps_7 : decode cX0_steps 7 = .ok (.aload_n 0, 1) := by decide +kernel
theorem dX0_steps_8 : decode cX0_steps 8 = .ok (.iload_n 2, 1) := by decide +kernel
theorem dX0_steps_9 : decode cX0_steps 9 = .ok (.invokevirtual 52, 3) := by decide +kernel
theorem dX0_steps_12 : decode cX0_steps 12 = .ok (.iload_n 1, 1) := by decide +kernel
theorem dX0_steps_13 : decode cX0_steps 13 = .ok (.istore_n 3, 1) := by decide +kernel
theorem dX0_steps_14 : decode cX0_steps 14 = .ok (.iconst 1, 1) := by decide +kernel
theorem dX0_steps_15 : decode cX0_steps 15 = .ok (.istore 4, 2) := by decide +kernel
theorem dX0_steps_17 : decode cX0_steps 17 = .ok (.iload 4, 2) := by decide +kernel
theorem dX0_steps_19 : decode cX0_steps 19 = .ok (.sipush 256, 3) := by decide +kernel
theorem dX0_steps_22 : decode cX0_steps 22 = .ok (.if_icmp .gt 50, 3) := by decide +kernel
theorem dX0_steps_25 : decode cX0_steps 25 = .ok (.aload_n 0, 1) := by decide +kernel
theorem dX0_steps_26 : decode cX0_steps 26 = .ok (.bipush 8, 2) := by decide +kernel
theorem dX0_steps_28 : decode cX0_steps 28 = .ok (.iload_n 3, 1) := by decide +kernel
theorem dX0_steps_29 : decode cX0_steps 29 = .ok (.invokevirtual 31, 3) := by decide +kernel
theorem dX0_steps_32 : decode cX0_steps 32 = .ok (.istore_n 3, 1) := by decide +kernel
theorem dX0_steps_33 : decode cX0_steps 33 = .ok (.aload_n 0, 1) := by decide +kernel
theorem dX0_steps_34 : decode cX0_steps 34 = .ok (.iload_n 3, 1) := by decide +kernel
theorem dX0_steps_35 : decode cX0_steps 35 = .ok (.invokevirtual 48, 3) := by decide +kernel
theorem dX0_steps_38 : decode cX0_steps 38 = .ok (.istore 5, 2) := by decide +kernel
theorem dX0_steps_40 : decode cX0_steps 40 = .ok (.aload_n 0, 1) := by decide +kernel
theorem dX0_steps_41 : decode cX0_steps 41 = .ok (.getfield 20, 3) := by decide +kernel
theorem dX0_steps_44 : decode cX0_steps 44 = .ok (.iload 5, 2) := by decide +kernel
theorem dX0_steps_46 : decode cX0_steps 46 = .ok (.iaload, 1) := by decide +kernel
theorem dX0_steps_47 : decode cX0_steps 47 = .ok (.iload_n 3, 1) := by decide +kernel
theorem dX0_steps_48 : decode cX0_steps 48 = .ok (.if_icmp .ne 18, 3) := by decide +kernel
theorem dX0_steps_51 : decode cX0_steps 51 = .ok (.sipush 256, 3) := by decide +kernel
theorem dX0_steps_54 : decode cX0_steps 54 = .ok (.iload 4, 2) := by decide +kernel
theorem dX0_steps_56 : decode cX0_steps 56 = .ok (.imul, 1) := by decide +kernel
theorem dX0_steps_57 : decode cX0_steps 57 = .ok (.aload_n 0, 1) := by decide +kernel
theorem dX0_steps_58 : decode cX0_steps 58 = .ok (.getfield 23, 3) := by decide +kernel
theorem dX0_steps_61 : decode cX0_steps 61 = .ok (.iload 5, 2) := by decide +kernel
theorem dX0_steps_63 : decode cX0_steps 63 = .ok (.saload, 1) := by decide +kernel
theorem dX0_steps_64 : decode cX0_steps 64 = .ok (.isub, 1) := by decide +kernel
theorem dX0_steps_65 : decode cX0_steps 65 = .ok (.ireturn, 1) := by decide +kernel
theorem dX0_steps_66 : decode cX0_steps 66 = .ok (.iinc 4 1, 3) := by decide +kernel
theorem dX0_steps_69 : decode cX0_steps 69 = .ok (.goto (-52), 3) := by decide +kernel
theorem dX0_steps_72 : decode cX0_steps 72 = .ok (.iconst (-1), 1) := by decide +kernel
theorem dX0_steps_73 : decode cX0_steps 73 = .ok (.ireturn, 1) := by decide +kernel
abbrev cX0_noteFrom : ByteArray := prog_1_method_14_code
def yX0_noteFrom : MethodName := ⟨RX0, "noteFrom", "(I)V"⟩
theorem dX0_noteFrom_0 : decode cX0_noteFrom 0 = .ok (.iconst 0, 1) := by decide +kernel
theorem dX0_noteFrom_1 : decode cX0_noteFrom 1 = .ok (.istore_n 2, 1) := by decide +kernel
theorem dX0_noteFrom_2 : decode cX0_noteFrom 2 = .ok (.iload_n 2, 1) := by decide +kernel
theorem dX0_noteFrom_3 : decode cX0_noteFrom 3 = .ok (.sipush 1024, 3) := by decide +kernel
theorem dX0_noteFrom_6 : decode cX0_noteFrom 6 = .ok (.if_icmp .ge 16, 3) := by decide +kernel
theorem dX0_noteFrom_9 : decode cX0_noteFrom 9 = .ok (.aload_n 0, 1) := by decide +kernel
theorem dX0_noteFrom_10 : decode cX0_noteFrom 10 = .ok (.getfield 20, 3) := by decide +kernel
theorem dX0_noteFrom_13 : decode cX0_noteFrom 13 = .ok (.iload_n 2, 1) := by decide +kernel
theorem dX0_noteFrom_14 : decode cX0_noteFrom 14 = .ok (.iconst 0, 1) := by decide +kernel
theorem dX0_noteFrom_15 : decode cX0_noteFrom 15 = .ok (.iastore, 1) := by decide +kernel
theorem dX0_noteFrom_16 : decode cX0_noteFrom 16 = .ok (.iinc 2 1, 3) := by decide +kernel
theorem dX0_noteFrom_19 : decode cX0_noteFrom 19 = .ok (.goto (-17), 3) := by decide +kernel
theorem dX0_noteFrom_22 : decode cX0_noteFrom 22 = .ok (.iload_n 1, 1) := by decide +kernel
theorem dX0_noteFrom_23 : decode cX0_noteFrom 23 = .ok (.istore_n 2, 1) := by decide +kernel
theorem dX0_noteFrom_24 : decode cX0_noteFrom 24 = .ok (.iconst 0, 1) := by decide +kernel
theorem dX0_noteFrom_25 : decode cX0_noteFrom 25 = .ok (.istore_n 3, 1) := by decide +kernel
theorem dX0_noteFrom_26 : decode cX0_noteFrom 26 = .ok (.iload_n 3, 1) := by decide +kernel
theorem dX0_noteFrom_27 : decode cX0_noteFrom 27 = .ok (.sipush 256, 3) := by decide +kernel
theorem dX0_noteFrom_30 : decode cX0_noteFrom 30 = .ok (.if_icmp .ge 38, 3) := by decide +kernel
theorem dX0_noteFrom_33 : decode cX0_noteFrom 33 = .ok (.aload_n 0, 1) := by decide +kernel
theorem dX0_noteFrom_34 : decode cX0_noteFrom 34 = .ok (.iload_n 2, 1) := by decide +kernel
theorem dX0_noteFrom_35 : decode cX0_noteFrom 35 = .ok (.invokevirtual 48, 3) := by decide +kernel
theorem dX0_noteFrom_38 : decode cX0_noteFrom 38 = .ok (.istore 4, 2) := by decide +kernel
theorem dX0_noteFrom_40 : decode cX0_noteFrom 40 = .ok (.aload_n 0, 1) := by decide +kernel
theorem dX0_noteFrom_41 : decode cX0_noteFrom 41 = .ok (.getfield 20, 3) := by decide +kernel
theorem dX0_noteFrom_44 : decode cX0_noteFrom 44 = .ok (.iload 4, 2) := by decide +kernel
theorem dX0_noteFrom_46 : decode cX0_noteFrom 46 = .ok (.iload_n 2, 1) := by decide +kernel
theorem dX0_noteFrom_47 : decode cX0_noteFrom 47 = .ok (.iastore, 1) := by decide +kernel
theorem dX0_noteFrom_48 : decode cX0_noteFrom 48 = .ok (.aload_n 0, 1) := by decide +kernel
theorem dX0_noteFrom_49 : decode cX0_noteFrom 49 = .ok (.getfield 23, 3) := by decide +kernel
theorem dX0_noteFrom_52 : decode cX0_noteFrom 52 = .ok (.iload 4, 2) := by decide +kernel
theorem dX0_noteFrom_54 : decode cX0_noteFrom 54 = .ok (.iload_n 3, 1) := by decide +kernel
theorem dX0_noteFrom_55 : decode cX0_noteFrom 55 = .ok (.i2s, 1) := by decide +kernel
theorem dX0_noteFrom_56 : decode cX0_noteFrom 56 = .ok (.sastore, 1) := by decide +kernel
theorem dX0_noteFrom_57 : decode cX0_noteFrom 57 = .ok (.iload_n 2, 1) := by decide +kernel
theorem dX0_noteFrom_58 : decode cX0_noteFrom 58 = .ok (.invokestatic 27, 3) := by decide +kernel
theorem dX0_noteFrom_61 : decode cX0_noteFrom 61 = .ok (.istore_n 2, 1) := by decide +kernel
theorem dX0_noteFrom_62 : decode cX0_noteFrom 62 = .ok (.iinc 3 1, 3) := by decide +kernel
theorem dX0_noteFrom_65 : decode cX0_noteFrom 65 = .ok (.goto (-39), 3) := by decide +kernel
theorem dX0_noteFrom_68 : decode cX0_noteFrom 68 = .ok (.return_, 1) := by decide +kernel
abbrev cX0_placeOf : ByteArray := prog_1_method_15_code
def yX0_placeOf : MethodName := ⟨RX0, "placeOf", "(I)I"⟩
theorem dX0_placeOf_0 : decode cX0_placeOf 0 = .ok (.iload_n 1, 1) := by decide +kernel
theorem dX0_placeOf_1 : decode cX0_placeOf 1 = .ok (.ldc 51, 2) := by decide +kernel
theorem dX0_placeOf_3 : decode cX0_placeOf 3 = .ok (.imul, 1) := by decide +kernel
theorem dX0_placeOf_4 : decode cX0_placeOf 4 = .ok (.bipush 6, 2) := by decide +kernel
theorem dX0_placeOf_6 : decode cX0_placeOf 6 = .ok (.ishr, 1) := by decide +kernel
theorem dX0_placeOf_7 : decode cX0_placeOf 7 = .ok (.sipush 1023, 3) := by decide +kernel
theorem dX0_placeOf_10 : decode cX0_placeOf 10 = .ok (.iand, 1) := by decide +kernel
theorem dX0_placeOf_11 : decode cX0_placeOf 11 = .ok (.istore_n 2, 1) := by decide +kernel
theorem dX0_placeOf_12 : decode cX0_placeOf 12 = .ok (.iconst 0, 1) := by decide +kernel
theorem dX0_placeOf_13 : decode cX0_placeOf 13 = .ok (.istore_n 3, 1) := by decide +kernel
theorem dX0_placeOf_14 : decode cX0_placeOf 14 = .ok (.iload_n 3, 1) := by decide +kernel
theorem dX0_placeOf_15 : decode cX0_placeOf 15 = .ok (.sipush 1024, 3) := by decide +kernel
theorem dX0_placeOf_18 : decode cX0_placeOf 18 = .ok (.if_icmp .ge 36, 3) := by decide +kernel
theorem dX0_placeOf_21 : decode cX0_placeOf 21 = .ok (.aload_n 0, 1) := by decide +kernel
theorem dX0_placeOf_22 : decode cX0_placeOf 22 = .ok (.getfield 20, 3) := by decide +kernel
theorem dX0_placeOf_25 : decode cX0_placeOf 25 = .ok (.iload_n 2, 1) := by decide +kernel
theorem dX0_placeOf_26 : decode cX0_placeOf 26 = .ok (.iaload, 1) := by decide +kernel
theorem dX0_placeOf_27 : decode cX0_placeOf 27 = .ok (.ifCond .eq 27, 3) := by decide +kernel
theorem dX0_placeOf_30 : decode cX0_placeOf 30 = .ok (.aload_n 0, 1) := by decide +kernel
theorem dX0_placeOf_31 : decode cX0_placeOf 31 = .ok (.getfield 20, 3) := by decide +kernel
theorem dX0_placeOf_34 : decode cX0_placeOf 34 = .ok (.iload_n 2, 1) := by decide +kernel
theorem dX0_placeOf_35 : decode cX0_placeOf 35 = .ok (.iaload, 1) := by decide +kernel
theorem dX0_placeOf_36 : decode cX0_placeOf 36 = .ok (.iload_n 1, 1) := by decide +kernel
theorem dX0_placeOf_37 : decode cX0_placeOf 37 = .ok (.if_icmp .eq 17, 3) := by decide +kernel
theorem dX0_placeOf_40 : decode cX0_placeOf 40 = .ok (.iload_n 2, 1) := by decide +kernel
theorem dX0_placeOf_41 : decode cX0_placeOf 41 = .ok (.iconst 1, 1) := by decide +kernel
theorem dX0_placeOf_42 : decode cX0_placeOf 42 = .ok (.iadd, 1) := by decide +kernel
theorem dX0_placeOf_43 : decode cX0_placeOf 43 = .ok (.sipush 1023, 3) := by decide +kernel
theorem dX0_placeOf_46 : decode cX0_placeOf 46 = .ok (.iand, 1) := by decide +kernel
theorem dX0_placeOf_47 : decode cX0_placeOf 47 = .ok (.istore_n 2, 1) := by decide +kernel
theorem dX0_placeOf_48 : decode cX0_placeOf 48 = .ok (.iinc 3 1, 3) := by decide +kernel
theorem dX0_placeOf_51 : decode cX0_placeOf 51 = .ok (.goto (-37), 3) := by decide +kernel
theorem dX0_placeOf_54 : decode cX0_placeOf 54 = .ok (.iload_n 2, 1) := by decide +kernel
theorem dX0_placeOf_55 : decode cX0_placeOf 55 = .ok (.ireturn, 1) := by decide +kernel
abbrev cX0_between : ByteArray := prog_1_method_18_code
def yX0_between : MethodName := ⟨RX0, "between", "(II)I"⟩
theorem dX0_between_0 : decode cX0_between 0 = .ok (.iload_n 1, 1) := by decide +kernel
theorem dX0_between_1 : decode cX0_between 1 = .ok (.invokestatic 45, 3) := by decide +kernel
theorem dX0_between_4 : decode cX0_between 4 = .ok (.ifCond .eq 28, 3) := by decide +kernel
theorem dX0_between_7 : decode cX0_between 7 = .ok (.iload_n 2, 1) := by decide +kernel
theorem dX0_between_8 : decode cX0_between 8 = .ok (.invokestatic 45, 3) := by decide +kernel
theorem dX0_between_11 : decode cX0_between 11 = .ok (.ifCond .eq 21, 3) := by decide +kernel
theorem dX0_between_14 : decode cX0_between 14 = .ok (.aload_n 0, 1) := by decide +kernel
theorem dX0_between_15 : decode cX0_between 15 = .ok (.getfield 13, 3) := by decide +kernel
theorem dX0_between_18 : decode cX0_between 18 = .ok (.iload_n 1, 1) := by decide +kernel
theorem dX0_between_19 : decode cX0_between 19 = .ok (.iaload, 1) := by decide +kernel
theorem dX0_between_20 : decode cX0_between 20 = .ok (.ifCond .eq 12, 3) := by decide +kernel
theorem dX0_between_23 : decode cX0_between 23 = .ok (.aload_n 0, 1) := by decide +kernel
theorem dX0_between_24 : decode cX0_between 24 = .ok (.getfield 13, 3) := by decide +kernel
theorem dX0_between_27 : decode cX0_between 27 = .ok (.iload_n 2, 1) := by decide +kernel
theorem dX0_between_28 : decode cX0_between 28 = .ok (.iaload, 1) := by decide +kernel
theorem dX0_between_29 : decode cX0_between 29 = .ok (.ifCond .ne 5, 3) := by decide +kernel
theorem dX0_between_32 : decode cX0_between 32 = .ok (.iconst (-1), 1) := by decide +kernel
theorem dX0_between_33 : decode cX0_between 33 = .ok (.ireturn, 1) := by decide +kernel
theorem dX0_between_34 : decode cX0_between 34 = .ok (.aload_n 0, 1) := by decide +kernel
theorem dX0_between_35 : decode cX0_between 35 = .ok (.aload_n 0, 1) := by decide +kernel
theorem dX0_between_36 : decode cX0_between 36 = .ok (.getfield 13, 3) := by decide +kernel
theorem dX0_between_39 : decode cX0_between 39 = .ok (.iload_n 1, 1) := by decide +kernel
theorem dX0_between_40 : decode cX0_between 40 = .ok (.iaload, 1) := by decide +kernel
theorem dX0_between_41 : decode cX0_between 41 = .ok (.aload_n 0, 1) := by decide +kernel
theorem dX0_between_42 : decode cX0_between 42 = .ok (.getfield 13, 3) := by decide +kernel
theorem dX0_between_45 : decode cX0_between 45 = .ok (.iload_n 2, 1) := by decide +kernel
theorem dX0_between_46 : decode cX0_between 46 = .ok (.iaload, 1) := by decide +kernel
theorem dX0_between_47 : decode cX0_between 47 = .ok (.invokevirtual 56, 3) := by decide +kernel
theorem dX0_between_50 : decode cX0_between 50 = .ok (.ireturn, 1) := by decide +kernel
abbrev cX0_mixed : ByteArray := prog_1_method_19_code
def yX0_mixed : MethodName := ⟨RX0, "mixed", "(I)I"⟩
theorem dX0_mixed_0 : decode cX0_mixed 0 = .ok (.iload_n 1, 1) := by decide +kernel
theorem dX0_mixed_1 : decode cX0_mixed 1 = .ok (.ifCond .lt 9, 3) := by decide +kernel
theorem dX0_mixed_4 : decode cX0_mixed 4 = .ok (.iload_n 1, 1) := by decide +kernel
theorem dX0_mixed_5 : decode cX0_mixed 5 = .ok (.ldc 41, 2) := by decide +kernel
theorem dX0_mixed_7 : decode cX0_mixed 7 = .ok (.if_icmp .le 5, 3) := by decide +kernel
theorem dX0_mixed_10 : decode cX0_mixed 10 = .ok (.iconst (-1), 1) := by decide +kernel
theorem dX0_mixed_11 : decode cX0_mixed 11 = .ok (.ireturn, 1) := by decide +kernel
theorem dX0_mixed_12 : decode cX0_mixed 12 = .ok (.iconst 0, 1) := by decide +kernel
theorem dX0_mixed_13 : decode cX0_mixed 13 = .ok (.istore_n 2, 1) := by decide +kernel
theorem dX0_mixed_14 : decode cX0_mixed 14 = .ok (.iconst 0, 1) := by decide +kernel
theorem dX0_mixed_15 : decode cX0_mixed 15 = .ok (.istore_n 3, 1) := by decide +kernel
theorem dX0_mixed_16 : decode cX0_mixed 16 = .ok (.bipush 16, 2) := by decide +kernel
theorem dX0_mixed_18 : decode cX0_mixed 18 = .ok (.istore 4, 2) := by decide +kernel
theorem dX0_mixed_20 : decode cX0_mixed 20 = .ok (.iload 4, 2) := by decide +kernel
theorem dX0_mixed_22 : decode cX0_mixed 22 = .ok (.ifCond .lt 46, 3) := by decide +kernel
theorem dX0_mixed_25 : decode cX0_mixed 25 = .ok (.iload_n 2, 1) := by decide +kernel
theorem dX0_mixed_26 : decode cX0_mixed 26 = .ok (.aload_n 0, 1) := by decide +kernel
theorem dX0_mixed_27 : decode cX0_mixed 27 = .ok (.iload_n 2, 1) := by decide +kernel
theorem dX0_mixed_28 : decode cX0_mixed 28 = .ok (.iload_n 3, 1) := by decide +kernel
theorem dX0_mixed_29 : decode cX0_mixed 29 = .ok (.invokevirtual 42, 3) := by decide +kernel
theorem dX0_mixed_32 : decode cX0_mixed 32 = .ok (.ixor, 1) := by decide +kernel
theorem dX0_mixed_33 : decode cX0_mixed 33 = .ok (.istore_n 2, 1) := by decide +kernel
theorem dX0_mixed_34 : decode cX0_mixed 34 = .ok (.iload_n 3, 1) := by decide +kernel
theorem dX0_mixed_35 : decode cX0_mixed 35 = .ok (.iconst 2, 1) := by decide +kernel
theorem dX0_mixed_36 : decode cX0_mixed 36 = .ok (.imul, 1) := by decide +kernel
theorem dX0_mixed_37 : decode cX0_mixed 37 = .ok (.istore_n 3, 1) := by decide +kernel
theorem dX0_mixed_38 : decode cX0_mixed 38 = .ok (.iload_n 1, 1) := by decide +kernel
theorem dX0_mixed_39 : decode cX0_mixed 39 = .ok (.iload 4, 2) := by decide +kernel
theorem dX0_mixed_41 : decode cX0_mixed 41 = .ok (.ishr, 1) := by decide +kernel
theorem dX0_mixed_42 : decode cX0_mixed 42 = .ok (.iconst 1, 1) := by decide +kernel
theorem dX0_mixed_43 : decode cX0_mixed 43 = .ok (.iand, 1) := by decide +kernel
theorem dX0_mixed_44 : decode cX0_mixed 44 = .ok (.ifCond .eq 18, 3) := by decide +kernel
theorem dX0_mixed_47 : decode cX0_mixed 47 = .ok (.iload_n 2, 1) := by decide +kernel
theorem dX0_mixed_48 : decode cX0_mixed 48 = .ok (.aload_n 0, 1) := by decide +kernel
theorem dX0_mixed_49 : decode cX0_mixed 49 = .ok (.aload_n 0, 1) := by decide +kernel
theorem dX0_mixed_50 : decode cX0_mixed 50 = .ok (.getfield 7, 3) := by decide +kernel
theorem dX0_mixed_53 : decode cX0_mixed 53 = .ok (.iload_n 3, 1) := by decide +kernel
theorem dX0_mixed_54 : decode cX0_mixed 54 = .ok (.invokevirtual 42, 3) := by decide +kernel
theorem dX0_mixed_57 : decode cX0_mixed 57 = .ok (.ixor, 1) := by decide +kernel
theorem dX0_mixed_58 : decode cX0_mixed 58 = .ok (.istore_n 2, 1) := by decide +kernel
theorem dX0_mixed_59 : decode cX0_mixed 59 = .ok (.iinc 3 1, 3) := by decide +kernel
theorem dX0_mixed_62 : decode cX0_mixed 62 = .ok (.iinc 4 (-1), 3) := by decide +kernel
theorem dX0_mixed_65 : decode cX0_mixed 65 = .ok (.goto (-45), 3) := by decide +kernel
theorem dX0_mixed_68 : decode cX0_mixed 68 = .ok (.iload_n 2, 1) := by decide +kernel
theorem dX0_mixed_69 : decode cX0_mixed 69 = .ok (.ireturn, 1) := by decide +kernel
abbrev cX0_period : ByteArray := prog_1_method_20_code
def yX0_period : MethodName := ⟨RX0, "period", "()I"⟩
theorem dX0_period_0 : decode cX0_period 0 = .ok (.iconst 1, 1) := by decide +kernel
theorem dX0_period_1 : decode cX0_period 1 = .ok (.istore_n 1, 1) := by decide +kernel
theorem dX0_period_2 : decode cX0_period 2 = .ok (.iload_n 1, 1) := by decide +kernel
theorem dX0_period_3 : decode cX0_period 3 = .ok (.ldc 35, 2) := by decide +kernel
theorem dX0_period_5 : decode cX0_period 5 = .ok (.if_icmp .ge 44, 3) := by decide +kernel
theorem dX0_period_8 : decode cX0_period 8 = .ok (.ldc 35, 2) := by decide +kernel
theorem dX0_period_10 : decode cX0_period 10 = .ok (.iload_n 1, 1) := by decide +kernel
theorem dX0_period_11 : decode cX0_period 11 = .ok (.irem, 1) := by decide +kernel
theorem dX0_period_12 : decode cX0_period 12 = .ok (.ifCond .ne 7, 3) := by decide +kernel
theorem dX0_period_15 : decode cX0_period 15 = .ok (.iconst 1, 1) := by decide +kernel
theorem dX0_period_16 : decode cX0_period 16 = .ok (.goto 4, 3) := by decide +kernel
theorem dX0_period_19 : decode cX0_period 19 = .ok (.iconst 0, 1) := by decide +kernel
theorem dX0_period_20 : decode cX0_period 20 = .ok (.istore_n 2, 1) := by decide +kernel
theorem dX0_period_21 : decode cX0_period 21 = .ok (.iload_n 2, 1) := by decide +kernel
theorem dX0_period_22 : decode cX0_period 22 = .ok (.ifCond .eq 21, 3) := by decide +kernel
theorem dX0_period_25 : decode cX0_period 25 = .ok (.aload_n 0, 1) := by decide +kernel
theorem dX0_period_26 : decode cX0_period 26 = .ok (.aload_n 0, 1) := by decide +kernel
theorem dX0_period_27 : decode cX0_period 27 = .ok (.getfield 7, 3) := by decide +kernel
theorem dX0_period_30 : decode cX0_period 30 = .ok (.iload_n 1, 1) := by decide +kernel
theorem dX0_period_31 : decode cX0_period 31 = .ok (.invokevirtual 42, 3) := by decide +kernel
theorem dX0_period_34 : decode cX0_period 34 = .ok (.aload_n 0, 1) := by decide +kernel
theorem dX0_period_35 : decode cX0_period 35 = .ok (.getfield 7, 3) := by decide +kernel
theorem dX0_period_38 : decode cX0_period 38 = .ok (.if_icmp .ne 5, 3) := by decide +kernel
theorem dX0_period_41 : decode cX0_period 41 = .ok (.iload_n 1, 1) := by decide +kernel
theorem dX0_period_42 : decode cX0_period 42 = .ok (.ireturn, 1) := by decide +kernel
theorem dX0_period_43 : decode cX0_period 43 = .ok (.iinc 1 1, 3) := by decide +kernel
theorem dX0_period_46 : decode cX0_period 46 = .ok (.goto (-44), 3) := by decide +kernel
theorem dX0_period_49 : decode cX0_period 49 = .ok (.ldc 35, 2) := by decide +kernel
theorem dX0_period_51 : decode cX0_period 51 = .ok (.ireturn, 1) := by decide +kernel
abbrev cX0_before : ByteArray := prog_1_method_21_code
def yX0_before : MethodName := ⟨RX0, "before", "(II)I"⟩
theorem dX0_before_0 : decode cX0_before 0 = .ok (.iload_n 1, 1) := by decide +kernel
theorem dX0_before_1 : decode cX0_before 1 = .ok (.invokestatic 36, 3) := by decide +kernel
theorem dX0_before_4 : decode cX0_before 4 = .ok (.ifCond .eq 23, 3) := by decide +kernel
theorem dX0_before_7 : decode cX0_before 7 = .ok (.iload_n 2, 1) := by decide +kernel
theorem dX0_before_8 : decode cX0_before 8 = .ok (.ifCond .lt 19, 3) := by decide +kernel
theorem dX0_before_11 : decode cX0_before 11 = .ok (.iload_n 2, 1) := by decide +kernel
theorem dX0_before_12 : decode cX0_before 12 = .ok (.ldc 41, 2) := by decide +kernel
theorem dX0_before_14 : decode cX0_before 14 = .ok (.if_icmp .gt 13, 3) := by decide +kernel
theorem dX0_before_17 : decode cX0_before 17 = .ok (.aload_n 0, 1) := by decide +kernel
theorem dX0_before_18 : decode cX0_before 18 = .ok (.iload_n 1, 1) := by decide +kernel
theorem dX0_before_19 : decode cX0_before 19 = .ok (.iload_n 2, 1) := by decide +kernel
theorem dX0_before_20 : decode cX0_before 20 = .ok (.ineg, 1) := by decide +kernel
theorem dX0_before_21 : decode cX0_before 21 = .ok (.invokevirtual 42, 3) := by decide +kernel
theorem dX0_before_24 : decode cX0_before 24 = .ok (.goto 4, 3) := by decide +kernel
theorem dX0_before_27 : decode cX0_before 27 = .ok (.iconst (-1), 1) := by decide +kernel
theorem dX0_before_28 : decode cX0_before 28 = .ok (.ireturn, 1) := by decide +kernel
abbrev cX0_apart : ByteArray := prog_1_method_22_code
def yX0_apart : MethodName := ⟨RX0, "apart", "(III)I"⟩
theorem dX0_apart_0 : decode cX0_apart 0 = .ok (.iload_n 1, 1) := by decide +kernel
theorem dX0_apart_1 : decode cX0_apart 1 = .ok (.invokestatic 36, 3) := by decide +kernel
theorem dX0_apart_4 : decode cX0_apart 4 = .ok (.ifCond .eq 31, 3) := by decide +kernel
theorem dX0_apart_7 : decode cX0_apart 7 = .ok (.iload_n 2, 1) := by decide +kernel
theorem dX0_apart_8 : decode cX0_apart 8 = .ok (.invokestatic 36, 3) := by decide +kernel
theorem dX0_apart_11 : decode cX0_apart 11 = .ok (.ifCond .eq 24, 3) := by decide +kernel
theorem dX0_apart_14 : decode cX0_apart 14 = .ok (.iload_n 3, 1) := by decide +kernel
theorem dX0_apart_15 : decode cX0_apart 15 = .ok (.ifCond .lt 20, 3) := by decide +kernel
theorem dX0_apart_18 : decode cX0_apart 18 = .ok (.iload_n 3, 1) := by decide +kernel
theorem dX0_apart_19 : decode cX0_apart 19 = .ok (.ldc 41, 2) := by decide +kernel
theorem dX0_apart_21 : decode cX0_apart 21 = .ok (.if_icmp .gt 14, 3) := by decide +kernel
theorem dX0_apart_24 : decode cX0_apart 24 = .ok (.aload_n 0, 1) := by decide +kernel
theorem dX0_apart_25 : decode cX0_apart 25 = .ok (.iload_n 1, 1) := by decide +kernel
theorem dX0_apart_26 : decode cX0_apart 26 = .ok (.iload_n 2, 1) := by decide +kernel
theorem dX0_apart_27 : decode cX0_apart 27 = .ok (.ixor, 1) := by decide +kernel
theorem dX0_apart_28 : decode cX0_apart 28 = .ok (.iload_n 3, 1) := by decide +kernel
theorem dX0_apart_29 : decode cX0_apart 29 = .ok (.invokevirtual 42, 3) := by decide +kernel
theorem dX0_apart_32 : decode cX0_apart 32 = .ok (.goto 4, 3) := by decide +kernel
theorem dX0_apart_35 : decode cX0_apart 35 = .ok (.iconst (-1), 1) := by decide +kernel
theorem dX0_apart_36 : decode cX0_apart 36 = .ok (.ireturn, 1) := by decide +kernel
abbrev cX0_nextRound : ByteArray := prog_1_method_23_code
def yX0_nextRound : MethodName := ⟨RX0, "nextRound", "(I)I"⟩
theorem dX0_nextRound_0 : decode cX0_nextRound 0 = .ok (.iload_n 1, 1) := by decide +kernel
theorem dX0_nextRound_1 : decode cX0_nextRound 1 = .ok (.ifCond .lt 9, 3) := by decide +kernel
theorem dX0_nextRound_4 : decode cX0_nextRound 4 = .ok (.iload_n 1, 1) := by decide +kernel
theorem dX0_nextRound_5 : decode cX0_nextRound 5 = .ok (.bipush 8, 2) := by decide +kernel
theorem dX0_nextRound_7 : decode cX0_nextRound 7 = .ok (.if_icmp .le 5, 3) := by decide +kernel
theorem dX0_nextRound_10 : decode cX0_nextRound 10 = .ok (.iconst (-1), 1) := by decide +kernel
theorem dX0_nextRound_11 : decode cX0_nextRound 11 = .ok (.ireturn, 1) := by decide +kernel
theorem dX0_nextRound_12 : decode cX0_nextRound 12 = .ok (.aload_n 0, 1) := by decide +kernel
theorem dX0_nextRound_13 : decode cX0_nextRound 13 = .ok (.getfield 7, 3) := by decide +kernel
theorem dX0_nextRound_16 : decode cX0_nextRound 16 = .ok (.istore_n 2, 1) := by decide +kernel
theorem dX0_nextRound_17 : decode cX0_nextRound 17 = .ok (.iconst 0, 1) := by decide +kernel
theorem dX0_nextRound_18 : decode cX0_nextRound 18 = .ok (.istore_n 3, 1) := by decide +kernel
theorem dX0_nextRound_19 : decode cX0_nextRound 19 = .ok (.iload_n 3, 1) := by decide +kernel
theorem dX0_nextRound_20 : decode cX0_nextRound 20 = .ok (.ldc 35, 2) := by decide +kernel
theorem dX0_nextRound_22 : decode cX0_nextRound 22 = .ok (.if_icmp .ge 26, 3) := by decide +kernel
theorem dX0_nextRound_25 : decode cX0_nextRound 25 = .ok (.iload_n 2, 1) := by decide +kernel
theorem dX0_nextRound_26 : decode cX0_nextRound 26 = .ok (.iconst 1, 1) := by decide +kernel
theorem dX0_nextRound_27 : decode cX0_nextRound 27 = .ok (.iload_n 1, 1) := by decide +kernel
theorem dX0_nextRound_28 : decode cX0_nextRound 28 = .ok (.ishl, 1) := by decide +kernel
theorem dX0_nextRound_29 : decode cX0_nextRound 29 = .ok (.iconst 1, 1) := by decide +kernel
theorem dX0_nextRound_30 : decode cX0_nextRound 30 = .ok (.isub, 1) := by decide +kernel
theorem dX0_nextRound_31 : decode cX0_nextRound 31 = .ok (.iand, 1) := by decide +kernel
theorem dX0_nextRound_32 : decode cX0_nextRound 32 = .ok (.ifCond .ne 5, 3) := by decide +kernel
theorem dX0_nextRound_35 : decode cX0_nextRound 35 = .ok (.iload_n 3, 1) := by decide +kernel
theorem dX0_nextRound_36 : decode cX0_nextRound 36 = .ok (.ireturn, 1) := by decide +kernel
theorem dX0_nextRound_37 : decode cX0_nextRound 37 = .ok (.iload_n 2, 1) := by decide +kernel
theorem dX0_nextRound_38 : decode cX0_nextRound 38 = .ok (.invokestatic 27, 3) := by decide +kernel
theorem dX0_nextRound_41 : decode cX0_nextRound 41 = .ok (.istore_n 2, 1) := by decide +kernel
theorem dX0_nextRound_42 : decode cX0_nextRound 42 = .ok (.iinc 3 1, 3) := by decide +kernel
theorem dX0_nextRound_45 : decode cX0_nextRound 45 = .ok (.goto (-26), 3) := by decide +kernel
theorem dX0_nextRound_48 : decode cX0_nextRound 48 = .ok (.iconst (-1), 1) := by decide +kernel
theorem dX0_nextRound_49 : decode cX0_nextRound 49 = .ok (.ireturn, 1) := by decide +kernel
theorem q13 : (Jvm.Cond.initialized "JumpGenerator") ∈ lw_all := lw_g (lw_at lw_m0 1 rfl) rfl
theorem q16 : (Jvm.Cond.instantiable "JumpGenerator" (5 : Nat)) ∈ lw_all := lw_g (lw_at lw_m0 4 rfl) rfl
theorem q18 : (Jvm.Cond.instanceMethod ({ cls := "JumpGenerator", name := "<init>", desc := "()V" } : Jvm.MethodName)) ∈ lw_all := lw_g (lw_at lw_m0 6 rfl) rfl
theorem q19 : (Jvm.Cond.code ({ cls := "JumpGenerator", name := "<init>", desc := "()V" } : Jvm.MethodName) prog_1_method_1_code (4 : Nat) (Option.none : Option Jvm.ClassFile.FieldType)) ∈ lw_all := lw_g (lw_at lw_m0 7 rfl) rfl
theorem q20 : (Jvm.Cond.methodLink "JumpGenerator" (1 : Nat) ({ cls := "java/lang/Object", name := "<init>", desc := "()V" } : Jvm.MethodName)) ∈ lw_all := lw_g (lw_at lw_m0 8 rfl) rfl
theorem q23 : (Jvm.Cond.methodLink "JumpGenerator" (27 : Nat) ({ cls := "JumpGenerator", name := "step", desc := "(I)I" } : Jvm.MethodName)) ∈ lw_all := lw_g (lw_at lw_m0 11 rfl) rfl
theorem q24 : (Jvm.Cond.static ({ cls := "JumpGenerator", name := "step", desc := "(I)I" } : Jvm.MethodName)) ∈ lw_all := lw_g (lw_at lw_m0 12 rfl) rfl
theorem q25 : (Jvm.Cond.code ({ cls := "JumpGenerator", name := "step", desc := "(I)I" } : Jvm.MethodName) prog_1_method_2_code (2 : Nat) (Option.some Jvm.ClassFile.FieldType.int)) ∈ lw_all := lw_g (lw_at lw_m0 13 rfl) rfl
theorem q26 : (Jvm.Cond.constant "JumpGenerator" (35 : Nat) (65535 : Int32)) ∈ lw_all := lw_g (lw_at lw_m0 14 rfl) rfl
theorem q27 : (Jvm.Cond.methodLink "JumpGenerator" (31 : Nat) ({ cls := "JumpGenerator", name := "apply", desc := "(II)I" } : Jvm.MethodName)) ∈ lw_all := lw_g (lw_at lw_m0 15 rfl) rfl
theorem q28 : (Jvm.Cond.privateMethod ({ cls := "JumpGenerator", name := "apply", desc := "(II)I" } : Jvm.MethodName)) ∈ lw_tbl := lw_at lw_m0 16 rfl
theorem q29 : (Jvm.Cond.instanceMethod ({ cls := "JumpGenerator", name := "apply", desc := "(II)I" } : Jvm.MethodName)) ∈ lw_all := lw_g (lw_at lw_m0 17 rfl) rfl
theorem q30 : (Jvm.Cond.code ({ cls := "JumpGenerator", name := "apply", desc := "(II)I" } : Jvm.MethodName) prog_1_method_3_code (5 : Nat) (Option.some Jvm.ClassFile.FieldType.int)) ∈ lw_all := lw_g (lw_at lw_m0 18 rfl) rfl
theorem q31 : (Jvm.Cond.fieldLink "JumpGenerator" (7 : Nat) "JumpGenerator" "current" "I") ∈ lw_all := lw_g (lw_at lw_m0 19 rfl) rfl
theorem q32 : (Jvm.Cond.fieldLink "JumpGenerator" (13 : Nat) "JumpGenerator" "marks" "[I") ∈ lw_all := lw_g (lw_at lw_m0 20 rfl) rfl
theorem q33 : (Jvm.Cond.fieldLink "JumpGenerator" (17 : Nat) "JumpGenerator" "images" "[I") ∈ lw_all := lw_g (lw_at lw_m0 21 rfl) rfl
theorem q34 : (Jvm.Cond.fieldLink "JumpGenerator" (20 : Nat) "JumpGenerator" "keyAt" "[I") ∈ lw_all := lw_g (lw_at lw_m0 22 rfl) rfl
theorem q35 : (Jvm.Cond.fieldLink "JumpGenerator" (23 : Nat) "JumpGenerator" "stepsAt" "[S") ∈ lw_all := lw_g (lw_at lw_m0 23 rfl) rfl
theorem q36 : (Jvm.Cond.lays "JumpGenerator" "JumpGenerator" "current" "I") ∈ lw_all := lw_g (lw_at lw_m0 24 rfl) rfl
theorem q37 : (Jvm.Cond.soleField "JumpGenerator" "current") ∈ lw_all := lw_g (lw_at lw_m0 25 rfl) rfl
theorem q38 : (Jvm.Cond.laysFinal "JumpGenerator" "JumpGenerator" "marks" "[I") ∈ lw_all := lw_g (lw_at lw_m0 26 rfl) rfl
theorem q39 : (Jvm.Cond.soleField "JumpGenerator" "marks") ∈ lw_all := lw_g (lw_at lw_m0 27 rfl) rfl
theorem q40 : (Jvm.Cond.laysFinal "JumpGenerator" "JumpGenerator" "images" "[I") ∈ lw_all := lw_g (lw_at lw_m0 28 rfl) rfl
theorem q41 : (Jvm.Cond.soleField "JumpGenerator" "images") ∈ lw_all := lw_g (lw_at lw_m0 29 rfl) rfl
theorem q42 : (Jvm.Cond.laysFinal "JumpGenerator" "JumpGenerator" "keyAt" "[I") ∈ lw_all := lw_g (lw_at lw_m0 30 rfl) rfl
theorem q43 : (Jvm.Cond.soleField "JumpGenerator" "keyAt") ∈ lw_all := lw_g (lw_at lw_m0 31 rfl) rfl
theorem q44 : (Jvm.Cond.laysFinal "JumpGenerator" "JumpGenerator" "stepsAt" "[S") ∈ lw_all := lw_g (lw_at lw_m0 32 rfl) rfl
theorem q45 : (Jvm.Cond.soleField "JumpGenerator" "stepsAt") ∈ lw_all := lw_g (lw_at lw_m0 33 rfl) rfl
theorem q46 : (Jvm.Cond.superclass "JumpGenerator" "java/lang/Object") ∈ lw_all := lw_g (lw_at lw_m0 34 rfl) rfl
theorem q50 : (Jvm.Cond.instanceMethod ({ cls := "JumpGenerator", name := "seed", desc := "(I)Z" } : Jvm.MethodName)) ∈ lw_all := lw_g (lw_at lw_m0 38 rfl) rfl
theorem q51 : (Jvm.Cond.selects "JumpGenerator" ({ cls := "JumpGenerator", name := "seed", desc := "(I)Z" } : Jvm.MethodName) ({ cls := "JumpGenerator", name := "seed", desc := "(I)Z" } : Jvm.MethodName)) ∈ lw_all := lw_g (lw_at lw_m0 39 rfl) rfl
theorem q52 : (Jvm.Cond.code ({ cls := "JumpGenerator", name := "seed", desc := "(I)Z" } : Jvm.MethodName) prog_1_method_7_code (2 : Nat) (Option.some Jvm.ClassFile.FieldType.boolean)) ∈ lw_all := lw_g (lw_at lw_m0 40 rfl) rfl
theorem q53 : (Jvm.Cond.methodLink "JumpGenerator" (36 : Nat) ({ cls := "JumpGenerator", name := "isState", desc := "(I)Z" } : Jvm.MethodName)) ∈ lw_all := lw_g (lw_at lw_m0 41 rfl) rfl
theorem q54 : (Jvm.Cond.static ({ cls := "JumpGenerator", name := "isState", desc := "(I)Z" } : Jvm.MethodName)) ∈ lw_all := lw_g (lw_at lw_m0 42 rfl) rfl
theorem q55 : (Jvm.Cond.code ({ cls := "JumpGenerator", name := "isState", desc := "(I)Z" } : Jvm.MethodName) prog_1_method_5_code (1 : Nat) (Option.some Jvm.ClassFile.FieldType.boolean)) ∈ lw_all := lw_g (lw_at lw_m0 43 rfl) rfl
theorem q57 : (Jvm.Cond.instanceMethod ({ cls := "JumpGenerator", name := "state", desc := "()I" } : Jvm.MethodName)) ∈ lw_all := lw_g (lw_at lw_m0 45 rfl) rfl
theorem q58 : (Jvm.Cond.selects "JumpGenerator" ({ cls := "JumpGenerator", name := "state", desc := "()I" } : Jvm.MethodName) ({ cls := "JumpGenerator", name := "state", desc := "()I" } : Jvm.MethodName)) ∈ lw_all := lw_g (lw_at lw_m0 46 rfl) rfl
theorem q59 : (Jvm.Cond.code ({ cls := "JumpGenerator", name := "state", desc := "()I" } : Jvm.MethodName) prog_1_method_8_code (1 : Nat) (Option.some Jvm.ClassFile.FieldType.int)) ∈ lw_all := lw_g (lw_at lw_m0 47 rfl) rfl
theorem q61 : (Jvm.Cond.instanceMethod ({ cls := "JumpGenerator", name := "next", desc := "()I" } : Jvm.MethodName)) ∈ lw_all := lw_g (lw_at lw_m0 49 rfl) rfl
theorem q62 : (Jvm.Cond.selects "JumpGenerator" ({ cls := "JumpGenerator", name := "next", desc := "()I" } : Jvm.MethodName) ({ cls := "JumpGenerator", name := "next", desc := "()I" } : Jvm.MethodName)) ∈ lw_all := lw_g (lw_at lw_m0 50 rfl) rfl
theorem q63 : (Jvm.Cond.code ({ cls := "JumpGenerator", name := "next", desc := "()I" } : Jvm.MethodName) prog_1_method_9_code (1 : Nat) (Option.some Jvm.ClassFile.FieldType.int)) ∈ lw_all := lw_g (lw_at lw_m0 51 rfl) rfl
theorem q65 : (Jvm.Cond.instanceMethod ({ cls := "JumpGenerator", name := "jump", desc := "(I)I" } : Jvm.MethodName)) ∈ lw_all := lw_g (lw_at lw_m0 53 rfl) rfl
theorem q66 : (Jvm.Cond.selects "JumpGenerator" ({ cls := "JumpGenerator", name := "jump", desc := "(I)I" } : Jvm.MethodName) ({ cls := "JumpGenerator", name := "jump", desc := "(I)I" } : Jvm.MethodName)) ∈ lw_all := lw_g (lw_at lw_m0 54 rfl) rfl
theorem q67 : (Jvm.Cond.code ({ cls := "JumpGenerator", name := "jump", desc := "(I)I" } : Jvm.MethodName) prog_1_method_10_code (2 : Nat) (Option.some Jvm.ClassFile.FieldType.int)) ∈ lw_all := lw_g (lw_at lw_m0 55 rfl) rfl
theorem q68 : (Jvm.Cond.constant "JumpGenerator" (40 : Nat) (-100000 : Int32)) ∈ lw_all := lw_g (lw_at lw_m0 56 rfl) rfl
theorem q69 : (Jvm.Cond.constant "JumpGenerator" (41 : Nat) (100000 : Int32)) ∈ lw_all := lw_g (lw_at lw_m0 57 rfl) rfl
theorem q70 : (Jvm.Cond.methodLink "JumpGenerator" (42 : Nat) ({ cls := "JumpGenerator", name := "wind", desc := "(II)I" } : Jvm.MethodName)) ∈ lw_all := lw_g (lw_at lw_m0 58 rfl) rfl
theorem q71 : (Jvm.Cond.privateMethod ({ cls := "JumpGenerator", name := "wind", desc := "(II)I" } : Jvm.MethodName)) ∈ lw_tbl := lw_at lw_m0 59 rfl
theorem q72 : (Jvm.Cond.instanceMethod ({ cls := "JumpGenerator", name := "wind", desc := "(II)I" } : Jvm.MethodName)) ∈ lw_all := lw_g (lw_at lw_m0 60 rfl) rfl
theorem q73 : (Jvm.Cond.code ({ cls := "JumpGenerator", name := "wind", desc := "(II)I" } : Jvm.MethodName) prog_1_method_4_code (6 : Nat) (Option.some Jvm.ClassFile.FieldType.int)) ∈ lw_all := lw_g (lw_at lw_m0 61 rfl) rfl
theorem q75 : (Jvm.Cond.instanceMethod ({ cls := "JumpGenerator", name := "peek", desc := "(I)I" } : Jvm.MethodName)) ∈ lw_all := lw_g (lw_at lw_m0 63 rfl) rfl
theorem q76 : (Jvm.Cond.selects "JumpGenerator" ({ cls := "JumpGenerator", name := "peek", desc := "(I)I" } : Jvm.MethodName) ({ cls := "JumpGenerator", name := "peek", desc := "(I)I" } : Jvm.MethodName)) ∈ lw_all := lw_g (lw_at lw_m0 64 rfl) rfl
theorem q77 : (Jvm.Cond.code ({ cls := "JumpGenerator", name := "peek", desc := "(I)I" } : Jvm.MethodName) prog_1_method_11_code (2 : Nat) (Option.some Jvm.ClassFile.FieldType.int)) ∈ lw_all := lw_g (lw_at lw_m0 65 rfl) rfl
theorem q79 : (Jvm.Cond.instanceMethod ({ cls := "JumpGenerator", name := "mark", desc := "(I)Z" } : Jvm.MethodName)) ∈ lw_all := lw_g (lw_at lw_m0 67 rfl) rfl
theorem q80 : (Jvm.Cond.selects "JumpGenerator" ({ cls := "JumpGenerator", name := "mark", desc := "(I)Z" } : Jvm.MethodName) ({ cls := "JumpGenerator", name := "mark", desc := "(I)Z" } : Jvm.MethodName)) ∈ lw_all := lw_g (lw_at lw_m0 68 rfl) rfl
theorem q81 : (Jvm.Cond.code ({ cls := "JumpGenerator", name := "mark", desc := "(I)Z" } : Jvm.MethodName) prog_1_method_12_code (2 : Nat) (Option.some Jvm.ClassFile.FieldType.boolean)) ∈ lw_all := lw_g (lw_at lw_m0 69 rfl) rfl
theorem q82 : (Jvm.Cond.methodLink "JumpGenerator" (45 : Nat) ({ cls := "JumpGenerator", name := "isMark", desc := "(I)Z" } : Jvm.MethodName)) ∈ lw_all := lw_g (lw_at lw_m0 70 rfl) rfl
theorem q83 : (Jvm.Cond.static ({ cls := "JumpGenerator", name := "isMark", desc := "(I)Z" } : Jvm.MethodName)) ∈ lw_all := lw_g (lw_at lw_m0 71 rfl) rfl
theorem q84 : (Jvm.Cond.code ({ cls := "JumpGenerator", name := "isMark", desc := "(I)Z" } : Jvm.MethodName) prog_1_method_6_code (1 : Nat) (Option.some Jvm.ClassFile.FieldType.boolean)) ∈ lw_all := lw_g (lw_at lw_m0 72 rfl) rfl
theorem q86 : (Jvm.Cond.instanceMethod ({ cls := "JumpGenerator", name := "back", desc := "(I)Z" } : Jvm.MethodName)) ∈ lw_all := lw_g (lw_at lw_m0 74 rfl) rfl
theorem q87 : (Jvm.Cond.selects "JumpGenerator" ({ cls := "JumpGenerator", name := "back", desc := "(I)Z" } : Jvm.MethodName) ({ cls := "JumpGenerator", name := "back", desc := "(I)Z" } : Jvm.MethodName)) ∈ lw_all := lw_g (lw_at lw_m0 75 rfl) rfl
theorem q88 : (Jvm.Cond.code ({ cls := "JumpGenerator", name := "back", desc := "(I)Z" } : Jvm.MethodName) prog_1_method_13_code (2 : Nat) (Option.some Jvm.ClassFile.FieldType.boolean)) ∈ lw_all := lw_g (lw_at lw_m0 76 rfl) rfl
theorem q90 : (Jvm.Cond.instanceMethod ({ cls := "JumpGenerator", name := "distance", desc := "(I)I" } : Jvm.MethodName)) ∈ lw_all := lw_g (lw_at lw_m0 78 rfl) rfl
theorem q91 : (Jvm.Cond.selects "JumpGenerator" ({ cls := "JumpGenerator", name := "distance", desc := "(I)I" } : Jvm.MethodName) ({ cls := "JumpGenerator", name := "distance", desc := "(I)I" } : Jvm.MethodName)) ∈ lw_all := lw_g (lw_at lw_m0 79 rfl) rfl
theorem q92 : (Jvm.Cond.code ({ cls := "JumpGenerator", name := "distance", desc := "(I)I" } : Jvm.MethodName) prog_1_method_17_code (2 : Nat) (Option.some Jvm.ClassFile.FieldType.int)) ∈ lw_all := lw_g (lw_at lw_m0 80 rfl) rfl
theorem q93 : (Jvm.Cond.methodLink "JumpGenerator" (56 : Nat) ({ cls := "JumpGenerator", name := "steps", desc := "(II)I" } : Jvm.MethodName)) ∈ lw_all := lw_g (lw_at lw_m0 81 rfl) rfl
theorem q94 : (Jvm.Cond.privateMethod ({ cls := "JumpGenerator", name := "steps", desc := "(II)I" } : Jvm.MethodName)) ∈ lw_tbl := lw_at lw_m0 82 rfl
theorem q95 : (Jvm.Cond.instanceMethod ({ cls := "JumpGenerator", name := "steps", desc := "(II)I" } : Jvm.MethodName)) ∈ lw_all := lw_g (lw_at lw_m0 83 rfl) rfl
theorem q96 : (Jvm.Cond.code ({ cls := "JumpGenerator", name := "steps", desc := "(II)I" } : Jvm.MethodName) prog_1_method_16_code (6 : Nat) (Option.some Jvm.ClassFile.FieldType.int)) ∈ lw_all := lw_g (lw_at lw_m0 84 rfl) rfl
theorem q97 : (Jvm.Cond.methodLink "JumpGenerator" (52 : Nat) ({ cls := "JumpGenerator", name := "noteFrom", desc := "(I)V" } : Jvm.MethodName)) ∈ lw_all := lw_g (lw_at lw_m0 85 rfl) rfl
theorem q98 : (Jvm.Cond.privateMethod ({ cls := "JumpGenerator", name := "noteFrom", desc := "(I)V" } : Jvm.MethodName)) ∈ lw_tbl := lw_at lw_m0 86 rfl
theorem q99 : (Jvm.Cond.instanceMethod ({ cls := "JumpGenerator", name := "noteFrom", desc := "(I)V" } : Jvm.MethodName)) ∈ lw_all := lw_g (lw_at lw_m0 87 rfl) rfl
theorem q100 : (Jvm.Cond.code ({ cls := "JumpGenerator", name := "noteFrom", desc := "(I)V" } : Jvm.MethodName) prog_1_method_14_code (5 : Nat) (Option.none : Option Jvm.ClassFile.FieldType)) ∈ lw_all := lw_g (lw_at lw_m0 88 rfl) rfl
theorem q101 : (Jvm.Cond.methodLink "JumpGenerator" (48 : Nat) ({ cls := "JumpGenerator", name := "placeOf", desc := "(I)I" } : Jvm.MethodName)) ∈ lw_all := lw_g (lw_at lw_m0 89 rfl) rfl
theorem q102 : (Jvm.Cond.privateMethod ({ cls := "JumpGenerator", name := "placeOf", desc := "(I)I" } : Jvm.MethodName)) ∈ lw_tbl := lw_at lw_m0 90 rfl
theorem q103 : (Jvm.Cond.instanceMethod ({ cls := "JumpGenerator", name := "placeOf", desc := "(I)I" } : Jvm.MethodName)) ∈ lw_all := lw_g (lw_at lw_m0 91 rfl) rfl
theorem q104 : (Jvm.Cond.code ({ cls := "JumpGenerator", name := "placeOf", desc := "(I)I" } : Jvm.MethodName) prog_1_method_15_code (4 : Nat) (Option.some Jvm.ClassFile.FieldType.int)) ∈ lw_all := lw_g (lw_at lw_m0 92 rfl) rfl
theorem q105 : (Jvm.Cond.constant "JumpGenerator" (51 : Nat) (40503 : Int32)) ∈ lw_all := lw_g (lw_at lw_m0 93 rfl) rfl
theorem q107 : (Jvm.Cond.instanceMethod ({ cls := "JumpGenerator", name := "between", desc := "(II)I" } : Jvm.MethodName)) ∈ lw_all := lw_g (lw_at lw_m0 95 rfl) rfl
theorem q108 : (Jvm.Cond.selects "JumpGenerator" ({ cls := "JumpGenerator", name := "between", desc := "(II)I" } : Jvm.MethodName) ({ cls := "JumpGenerator", name := "between", desc := "(II)I" } : Jvm.MethodName)) ∈ lw_all := lw_g (lw_at lw_m0 96 rfl) rfl
theorem q109 : (Jvm.Cond.code ({ cls := "JumpGenerator", name := "between", desc := "(II)I" } : Jvm.MethodName) prog_1_method_18_code (3 : Nat) (Option.some Jvm.ClassFile.FieldType.int)) ∈ lw_all := lw_g (lw_at lw_m0 97 rfl) rfl
theorem q111 : (Jvm.Cond.instanceMethod ({ cls := "JumpGenerator", name := "mixed", desc := "(I)I" } : Jvm.MethodName)) ∈ lw_all := lw_g (lw_at lw_m0 99 rfl) rfl
theorem q112 : (Jvm.Cond.selects "JumpGenerator" ({ cls := "JumpGenerator", name := "mixed", desc := "(I)I" } : Jvm.MethodName) ({ cls := "JumpGenerator", name := "mixed", desc := "(I)I" } : Jvm.MethodName)) ∈ lw_all := lw_g (lw_at lw_m0 100 rfl) rfl
theorem q113 : (Jvm.Cond.code ({ cls := "JumpGenerator", name := "mixed", desc := "(I)I" } : Jvm.MethodName) prog_1_method_19_code (5 : Nat) (Option.some Jvm.ClassFile.FieldType.int)) ∈ lw_all := lw_g (lw_at lw_m0 101 rfl) rfl
theorem q115 : (Jvm.Cond.instanceMethod ({ cls := "JumpGenerator", name := "period", desc := "()I" } : Jvm.MethodName)) ∈ lw_all := lw_g (lw_at lw_m0 103 rfl) rfl
theorem q116 : (Jvm.Cond.selects "JumpGenerator" ({ cls := "JumpGenerator", name := "period", desc := "()I" } : Jvm.MethodName) ({ cls := "JumpGenerator", name := "period", desc := "()I" } : Jvm.MethodName)) ∈ lw_all := lw_g (lw_at lw_m0 104 rfl) rfl
theorem q117 : (Jvm.Cond.code ({ cls := "JumpGenerator", name := "period", desc := "()I" } : Jvm.MethodName) prog_1_method_20_code (3 : Nat) (Option.some Jvm.ClassFile.FieldType.int)) ∈ lw_all := lw_g (lw_at lw_m0 105 rfl) rfl
theorem q119 : (Jvm.Cond.instanceMethod ({ cls := "JumpGenerator", name := "before", desc := "(II)I" } : Jvm.MethodName)) ∈ lw_all := lw_g (lw_at lw_m0 107 rfl) rfl
theorem q120 : (Jvm.Cond.selects "JumpGenerator" ({ cls := "JumpGenerator", name := "before", desc := "(II)I" } : Jvm.MethodName) ({ cls := "JumpGenerator", name := "before", desc := "(II)I" } : Jvm.MethodName)) ∈ lw_all := lw_g (lw_at lw_m0 108 rfl) rfl
theorem q121 : (Jvm.Cond.code ({ cls := "JumpGenerator", name := "before", desc := "(II)I" } : Jvm.MethodName) prog_1_method_21_code (3 : Nat) (Option.some Jvm.ClassFile.FieldType.int)) ∈ lw_all := lw_g (lw_at lw_m0 109 rfl) rfl
theorem q123 : (Jvm.Cond.instanceMethod ({ cls := "JumpGenerator", name := "apart", desc := "(III)I" } : Jvm.MethodName)) ∈ lw_all := lw_g (lw_at lw_m0 111 rfl) rfl
theorem q124 : (Jvm.Cond.selects "JumpGenerator" ({ cls := "JumpGenerator", name := "apart", desc := "(III)I" } : Jvm.MethodName) ({ cls := "JumpGenerator", name := "apart", desc := "(III)I" } : Jvm.MethodName)) ∈ lw_all := lw_g (lw_at lw_m0 112 rfl) rfl
theorem q125 : (Jvm.Cond.code ({ cls := "JumpGenerator", name := "apart", desc := "(III)I" } : Jvm.MethodName) prog_1_method_22_code (4 : Nat) (Option.some Jvm.ClassFile.FieldType.int)) ∈ lw_all := lw_g (lw_at lw_m0 113 rfl) rfl
theorem q127 : (Jvm.Cond.instanceMethod ({ cls := "JumpGenerator", name := "nextRound", desc := "(I)I" } : Jvm.MethodName)) ∈ lw_all := lw_g (lw_at lw_m0 115 rfl) rfl
theorem q128 : (Jvm.Cond.selects "JumpGenerator" ({ cls := "JumpGenerator", name := "nextRound", desc := "(I)I" } : Jvm.MethodName) ({ cls := "JumpGenerator", name := "nextRound", desc := "(I)I" } : Jvm.MethodName)) ∈ lw_all := lw_g (lw_at lw_m0 116 rfl) rfl
theorem q129 : (Jvm.Cond.code ({ cls := "JumpGenerator", name := "nextRound", desc := "(I)I" } : Jvm.MethodName) prog_1_method_23_code (4 : Nat) (Option.some Jvm.ClassFile.FieldType.int)) ∈ lw_all := lw_g (lw_at lw_m0 117 rfl) rfl
theorem in_X0 : ∀ w ∈ wsX00, w ∈ lw_all := lw_in wsX00 [36, 38, 40, 42, 44] (by decide +kernel) (by decide +kernel)
end
section
/-! JumpGeneratorModel -/
set_option maxRecDepth 100000
def RX1 : String := "JumpGeneratorModel"
def TX1 : u_T := fun k => match k with
  | 0 => ("JumpGeneratorModel", "now", "I", false)
  | _ => ("JumpGeneratorModel", "marks", "[I", false)
def tyX1 : Nat → FieldType := fun k => match k with
  | 0 => .int
  | _ => .array .int
abbrev wsX10 : List Cond := u_ws RX1 TX1 2
theorem nmX1 : ∀ a, a < 2 → ∀ b, b < 2 → a ≠ b → (TX1 a).2.1 ≠ (TX1 b).2.1 := by decide +kernel
theorem tyX1_ok : ∀ k, k < 2 → parseFieldDescriptor (TX1 k).2.2.1 = some (tyX1 k) := by decide +kernel
abbrev cX1_init : ByteArray := prog_3_method_1_code
def yX1_init : MethodName := ⟨RX1, "<init>", "()V"⟩
theorem dX1_init_0 : decode cX1_init 0 = .ok (.aload_n 0, 1) := by decide +kernel
theorem dX1_init_1 : decode cX1_init 1 = .ok (.invokespecial 1, 3) := by decide +kernel
theorem dX1_init_4 : decode cX1_init 4 = .ok (.aload_n 0, 1) := by decide +kernel
theorem dX1_init_5 : decode cX1_init 5 = .ok (.bipush 8, 2) := by decide +kernel
theorem dX1_init_7 : decode cX1_init 7 = .ok (.newarray .int, 2) := by decide +kernel
theorem dX1_init_9 : decode cX1_init 9 = .ok (.putfield 7, 3) := by decide +kernel
theorem dX1_init_12 : decode cX1_init 12 = .ok (.aload_n 0, 1) := by decide +kernel
theorem dX1_init_13 : decode cX1_init 13 = .ok (.iconst 1, 1) := by decide +kernel
theorem dX1_init_14 : decode cX1_init 14 = .ok (.putfield 13, 3) := by decide +kernel
theorem dX1_init_17 : decode cX1_init 17 = .ok (.return_, 1) := by decide +kernel
abbrev cX1_seed : ByteArray := prog_3_method_7_code
def yX1_seed : MethodName := ⟨RX1, "seed", "(I)Z"⟩
theorem dX1_seed_0 : decode cX1_seed 0 = .ok (.aload_n 0, 1) := by decide +kernel
theorem dX1_seed_1 : decode cX1_seed 1 = .ok (.iload_n 1, 1) := by decide +kernel
theorem dX1_seed_2 : decode cX1_seed 2 = .ok (.invokevirtual 27, 3) := by decide +kernel
theorem dX1_seed_5 : decode cX1_seed 5 = .ok (.ifCond .ne 5, 3) := by decide +kernel
theorem dX1_seed_8 : decode cX1_seed 8 = .ok (.iconst 0, 1) := by decide +kernel
theorem dX1_seed_9 : decode cX1_seed 9 = .ok (.ireturn, 1) := by decide +kernel
theorem dX1_seed_10 : decode cX1_seed 10 = .ok (.aload_n 0, 1) := by decide +kernel
theorem dX1_seed_11 : decode cX1_seed 11 = .ok (.iload_n 1, 1) := by decide +kernel
theorem dX1_seed_12 : decode cX1_seed 12 = .ok (.putfield 13, 3) := by decide +kernel
theorem dX1_seed_15 : decode cX1_seed 15 = .ok (.iconst 1, 1) := by decide +kernel
theorem dX1_seed_16 : decode cX1_seed 16 = .ok (.ireturn, 1) := by decide +kernel
abbrev cX1_isState : ByteArray := prog_3_method_2_code
def yX1_isState : MethodName := ⟨RX1, "isState", "(I)Z"⟩
theorem dX1_isState_0 : decode cX1_isState 0 = .ok (.iload_n 1, 1) := by decide +kernel
theorem dX1_isState_1 : decode cX1_isState 1 = .ok (.iconst 1, 1) := by decide +kernel
theorem dX1_isState_2 : decode cX1_isState 2 = .ok (.if_icmp .lt 13, 3) := by decide +kernel
theorem dX1_isState_5 : decode cX1_isState 5 = .ok (.iload_n 1, 1) := by decide +kernel
theorem dX1_isState_6 : decode cX1_isState 6 = .ok (.ldc 17, 2) := by decide +kernel
theorem dX1_isState_8 : decode cX1_isState 8 = .ok (.if_icmp .gt 7, 3) := by decide +kernel
theorem dX1_isState_11 : decode cX1_isState 11 = .ok (.iconst 1, 1) := by decide +kernel
theorem dX1_isState_12 : decode cX1_isState 12 = .ok (.goto 4, 3) := by decide +kernel
theorem dX1_isState_15 : decode cX1_isState 15 = .ok (.iconst 0, 1) := by decide +kernel
theorem dX1_isState_16 : decode cX1_isState 16 = .ok (.ireturn, 1) := by decide +kernel
abbrev cX1_state : ByteArray := prog_3_method_8_code
def yX1_state : MethodName := ⟨RX1, "state", "()I"⟩
theorem dX1_state_0 : decode cX1_state 0 = .ok (.aload_n 0, 1) := by decide +kernel
theorem dX1_state_1 : decode cX1_state 1 = .ok (.getfield 13, 3) := by decide +kernel
theorem dX1_state_4 : decode cX1_state 4 = .ok (.ireturn, 1) := by decide +kernel
abbrev cX1_next : ByteArray := prog_3_method_9_code
def yX1_next : MethodName := ⟨RX1, "next", "()I"⟩
theorem dX1_next_0 : decode cX1_next 0 = .ok (.aload_n 0, 1) := by decide +kernel
theorem dX1_next_1 : decode cX1_next 1 = .ok (.aload_n 0, 1) := by decide +kernel
theorem dX1_next_2 : decode cX1_next 2 = .ok (.aload_n 0, 1) := by decide +kernel
theorem dX1_next_3 : decode cX1_next 3 = .ok (.getfield 13, 3) := by decide +kernel
theorem dX1_next_6 : decode cX1_next 6 = .ok (.invokevirtual 18, 3) := by decide +kernel
theorem dX1_next_9 : decode cX1_next 9 = .ok (.putfield 13, 3) := by decide +kernel
theorem dX1_next_12 : decode cX1_next 12 = .ok (.aload_n 0, 1) := by decide +kernel
theorem dX1_next_13 : decode cX1_next 13 = .ok (.getfield 13, 3) := by decide +kernel
theorem dX1_next_16 : decode cX1_next 16 = .ok (.ireturn, 1) := by decide +kernel
abbrev cX1_step : ByteArray := prog_3_method_3_code
def yX1_step : MethodName := ⟨RX1, "step", "(I)I"⟩
theorem dX1_step_0 : decode cX1_step 0 = .ok (.iload_n 1, 1) := by decide +kernel
theorem dX1_step_1 : decode cX1_step 1 = .ok (.iload_n 1, 1) := by decide +kernel
theorem dX1_step_2 : decode cX1_step 2 = .ok (.bipush 7, 2) := by decide +kernel
theorem dX1_step_4 : decode cX1_step 4 = .ok (.ishl, 1) := by decide +kernel
theorem dX1_step_5 : decode cX1_step 5 = .ok (.ixor, 1) := by decide +kernel
theorem dX1_step_6 : decode cX1_step 6 = .ok (.ldc 17, 2) := by decide +kernel
theorem dX1_step_8 : decode cX1_step 8 = .ok (.iand, 1) := by decide +kernel
theorem dX1_step_9 : decode cX1_step 9 = .ok (.istore_n 2, 1) := by decide +kernel
theorem dX1_step_10 : decode cX1_step 10 = .ok (.iload_n 2, 1) := by decide +kernel
theorem dX1_step_11 : decode cX1_step 11 = .ok (.iload_n 2, 1) := by decide +kernel
theorem dX1_step_12 : decode cX1_step 12 = .ok (.bipush 9, 2) := by decide +kernel
theorem dX1_step_14 : decode cX1_step 14 = .ok (.ishr, 1) := by decide +kernel
theorem dX1_step_15 : decode cX1_step 15 = .ok (.ixor, 1) := by decide +kernel
theorem dX1_step_16 : decode cX1_step 16 = .ok (.istore_n 3, 1) := by decide +kernel
theorem dX1_step_17 : decode cX1_step 17 = .ok (.iload_n 3, 1) := by decide +kernel
theorem dX1_step_18 : decode cX1_step 18 = .ok (.iload_n 3, 1) := by decide +kernel
theorem dX1_step_19 : decode cX1_step 19 = .ok (.bipush 8, 2) := by decide +kernel
theorem dX1_step_21 : decode cX1_step 21 = .ok (.ishl, 1) := by decide +kernel
theorem dX1_step_22 : decode cX1_step 22 = .ok (.ixor, 1) := by decide +kernel
theorem dX1_step_23 : decode cX1_step 23 = .ok (.ldc 17, 2) := by decide +kernel
theorem dX1_step_25 : decode cX1_step 25 = .ok (.iand, 1) := by decide +kernel
theorem dX1_step_26 : decode cX1_step 26 = .ok (.ireturn, 1) := by decide +kernel
abbrev cX1_jump : ByteArray := prog_3_method_10_code
def yX1_jump : MethodName := ⟨RX1, "jump", "(I)I"⟩
theorem dX1_jump_0 : decode cX1_jump 0 = .ok (.aload_n 0, 1) := by decide +kernel
theorem dX1_jump_1 : decode cX1_jump 1 = .ok (.iload_n 1, 1) := by decide +kernel
theorem dX1_jump_2 : decode cX1_jump 2 = .ok (.invokevirtual 31, 3) := by decide +kernel
theorem dX1_jump_5 : decode cX1_jump 5 = .ok (.ifCond .ne 5, 3) := by decide +kernel
theorem dX1_jump_8 : decode cX1_jump 8 = .ok (.iconst (-1), 1) := by decide +kernel
theorem dX1_jump_9 : decode cX1_jump 9 = .ok (.ireturn, 1) := by decide +kernel
theorem dX1_jump_10 : decode cX1_jump 10 = .ok (.aload_n 0, 1) := by decide +kernel
theorem dX1_jump_11 : decode cX1_jump 11 = .ok (.aload_n 0, 1) := by decide +kernel
theorem dX1_jump_12 : decode cX1_jump 12 = .ok (.aload_n 0, 1) := by decide +kernel
theorem dX1_jump_13 : decode cX1_jump 13 = .ok (.getfield 13, 3) := by decide +kernel
theorem dX1_jump_16 : decode cX1_jump 16 = .ok (.iload_n 1, 1) := by decide +kernel
theorem dX1_jump_17 : decode cX1_jump 17 = .ok (.invokevirtual 34, 3) := by decide +kernel
theorem dX1_jump_20 : decode cX1_jump 20 = .ok (.putfield 13, 3) := by decide +kernel
theorem dX1_jump_23 : decode cX1_jump 23 = .ok (.aload_n 0, 1) := by decide +kernel
theorem dX1_jump_24 : decode cX1_jump 24 = .ok (.getfield 13, 3) := by decide +kernel
theorem dX1_jump_27 : decode cX1_jump 27 = .ok (.ireturn, 1) := by decide +kernel
abbrev cX1_near : ByteArray := prog_3_method_6_code
def yX1_near : MethodName := ⟨RX1, "near", "(I)Z"⟩
theorem dX1_near_0 : decode cX1_near 0 = .ok (.iload_n 1, 1) := by decide +kernel
theorem dX1_near_1 : decode cX1_near 1 = .ok (.ldc 25, 2) := by decide +kernel
theorem dX1_near_3 : decode cX1_near 3 = .ok (.if_icmp .lt 13, 3) := by decide +kernel
theorem dX1_near_6 : decode cX1_near 6 = .ok (.iload_n 1, 1) := by decide +kernel
theorem dX1_near_7 : decode cX1_near 7 = .ok (.ldc 26, 2) := by decide +kernel
theorem dX1_near_9 : decode cX1_near 9 = .ok (.if_icmp .gt 7, 3) := by decide +kernel
theorem dX1_near_12 : decode cX1_near 12 = .ok (.iconst 1, 1) := by decide +kernel
theorem dX1_near_13 : decode cX1_near 13 = .ok (.goto 4, 3) := by decide +kernel
theorem dX1_near_16 : decode cX1_near 16 = .ok (.iconst 0, 1) := by decide +kernel
theorem dX1_near_17 : decode cX1_near 17 = .ok (.ireturn, 1) := by decide +kernel
abbrev cX1_go : ByteArray := prog_3_method_5_code
def yX1_go : MethodName := ⟨RX1, "go", "(II)I"⟩
theorem dX1_go_0 : decode cX1_go 0 = .ok (.iload_n 1, 1) := by decide +kernel
theorem dX1_go_1 : decode cX1_go 1 = .ok (.istore_n 3, 1) := by decide +kernel
theorem dX1_go_2 : decode cX1_go 2 = .ok (.iconst 0, 1) := by decide +kernel
theorem dX1_go_3 : decode cX1_go 3 = .ok (.istore 4, 2) := by decide +kernel
theorem dX1_go_5 : decode cX1_go 5 = .ok (.iload 4, 2) := by decide +kernel
theorem dX1_go_7 : decode cX1_go 7 = .ok (.iload_n 2, 1) := by decide +kernel
theorem dX1_go_8 : decode cX1_go 8 = .ok (.if_icmp .ge 15, 3) := by decide +kernel
theorem dX1_go_11 : decode cX1_go 11 = .ok (.aload_n 0, 1) := by decide +kernel
theorem dX1_go_12 : decode cX1_go 12 = .ok (.iload_n 3, 1) := by decide +kernel
theorem dX1_go_13 : decode cX1_go 13 = .ok (.invokevirtual 18, 3) := by decide +kernel
theorem dX1_go_16 : decode cX1_go 16 = .ok (.istore_n 3, 1) := by decide +kernel
theorem dX1_go_17 : decode cX1_go 17 = .ok (.iinc 4 1, 3) := by decide +kernel
theorem dX1_go_20 : decode cX1_go 20 = .ok (.goto (-15), 3) := by decide +kernel
theorem dX1_go_23 : decode cX1_go 23 = .ok (.iconst 0, 1) := by decide +kernel
theorem dX1_go_24 : decode cX1_go 24 = .ok (.istore 4, 2) := by decide +kernel
theorem dX1_go_26 : decode cX1_go 26 = .ok (.iload 4, 2) := by decide +kernel
theorem dX1_go_28 : decode cX1_go 28 = .ok (.iload_n 2, 1) := by decide +kernel
theorem dX1_go_29 : decode cX1_go 29 = .ok (.if_icmp .le 15, 3) := by decide +kernel
theorem dX1_go_32 : decode cX1_go 32 = .ok (.aload_n 0, 1) := by decide +kernel
theorem dX1_go_33 : decode cX1_go 33 = .ok (.iload_n 3, 1) := by decide +kernel
theorem dX1_go_34 : decode cX1_go 34 = .ok (.invokevirtual 22, 3) := by decide +kernel
theorem dX1_go_37 : decode cX1_go 37 = .ok (.istore_n 3, 1) := by decide +kernel
theorem dX1_go_38 : decode cX1_go 38 = .ok (.iinc 4 (-1), 3) := by decide +kernel
theorem dX1_go_41 : decode cX1_go 41 = .ok (.goto (-15), 3) := by decide +kernel
theorem dX1_go_44 : decode cX1_go 44 = .ok (.iload_n 3, 1) := by decide +kernel
theorem dX1_go_45 : decode cX1_go 45 = .ok (.ireturn, 1) := by decide +kernel
abbrev cX1_stepBack : ByteArray := prog_3_method_4_code
def yX1_stepBack : MethodName := ⟨RX1, "stepBack", "(I)I"⟩
theorem dX1_stepBack_0 : decode cX1_stepBack 0 = .ok (.iload_n 1, 1) := by decide +kernel
theorem dX1_stepBack_1 : decode cX1_stepBack 1 = .ok (.iload_n 1, 1) := by decide +kernel
theorem dX1_stepBack_2 : decode cX1_stepBack 2 = .ok (.bipush 8, 2) := by decide +kernel
theorem dX1_stepBack_4 : decode cX1_stepBack 4 = .ok (.ishl, 1) := by decide +kernel
theorem dX1_stepBack_5 : decode cX1_stepBack 5 = .ok (.ixor, 1) := by decide +kernel
theorem dX1_stepBack_6 : decode cX1_stepBack 6 = .ok (.ldc 17, 2) := by decide +kernel
theorem dX1_stepBack_8 : decode cX1_stepBack 8 = .ok (.iand, 1) := by decide +kernel
theorem dX1_stepBack_9 : decode cX1_stepBack 9 = .ok (.istore_n 2, 1) := by decide +kernel
theorem dX1_stepBack_10 : decode cX1_stepBack 10 = .ok (.iload_n 2, 1) := by decide +kernel
theorem dX1_stepBack_11 : decode cX1_stepBack 11 = .ok (.iload_n 2, 1) := by decide +kernel
theorem dX1_stepBack_12 : decode cX1_stepBack 12 = .ok (.bipush 9, 2) := by decide +kernel
theorem dX1_stepBack_14 : decode cX1_stepBack 14 = .ok (.ishr, 1) := by decide +kernel
theorem dX1_stepBack_15 : decode cX1_stepBack 15 = .ok (.ixor, 1) := by decide +kernel
theorem dX1_stepBack_16 : decode cX1_stepBack 16 = .ok (.istore_n 3, 1) := by decide +kernel
theorem dX1_stepBack_17 : decode cX1_stepBack 17 = .ok (.iload_n 3, 1) := by decide +kernel
theorem dX1_stepBack_18 : decode cX1_stepBack 18 = .ok (.iload_n 3, 1) := by decide +kernel
theorem dX1_stepBack_19 : decode cX1_stepBack 19 = .ok (.bipush 7, 2) := by decide +kernel
theorem dX1_stepBack_21 : decode cX1_stepBack 21 = .ok (.ishl, 1) := by decide +kernel
theorem dX1_stepBack_22 : decode cX1_stepBack 22 = .ok (.ixor, 1) := by decide +kernel
theorem dX1_stepBack_23 : decode cX1_stepBack 23 = .ok (.iload_n 3, 1) := by decide +kernel
theorem dX1_stepBack_24 : decode cX1_stepBack 24 = .ok (.bipush 14, 2) := by decide +kernel
theorem dX1_stepBack_26 : decode cX1_stepBack 26 = .ok (.ishl, 1) := by decide +kernel
theorem dX1_stepBack_27 : decode cX1_stepBack 27 = .ok (.ixor, 1) := by decide +kernel
theorem dX1_stepBack_28 : decode cX1_stepBack 28 = .ok (.ldc 17, 2) := by decide +kernel
theorem dX1_stepBack_30 : decode cX1_stepBack 30 = .ok (.iand, 1) := by decide +kernel
theorem dX1_stepBack_31 : decode cX1_stepBack 31 = .ok (.ireturn, 1) := by decide +kernel
abbrev cX1_peek : ByteArray := prog_3_method_11_code
def yX1_peek : MethodName := ⟨RX1, "peek", "(I)I"⟩
theorem dX1_peek_0 : decode cX1_peek 0 = .ok (.aload_n 0, 1) := by decide +kernel
theorem dX1_peek_1 : decode cX1_peek 1 = .ok (.iload_n 1, 1) := by decide +kernel
theorem dX1_peek_2 : decode cX1_peek 2 = .ok (.invokevirtual 31, 3) := by decide +kernel
theorem dX1_peek_5 : decode cX1_peek 5 = .ok (.ifCond .eq 15, 3) := by decide +kernel
theorem dX1_peek_8 : decode cX1_peek 8 = .ok (.aload_n 0, 1) := by decide +kernel
theorem dX1_peek_9 : decode cX1_peek 9 = .ok (.aload_n 0, 1) := by decide +kernel
theorem dX1_peek_10 : decode cX1_peek 10 = .ok (.getfield 13, 3) := by decide +kernel
theorem dX1_peek_13 : decode cX1_peek 13 = .ok (.iload_n 1, 1) := by decide +kernel
theorem dX1_peek_14 : decode cX1_peek 14 = .ok (.invokevirtual 34, 3) := by decide +kernel
theorem dX1_peek_17 : decode cX1_peek 17 = .ok (.goto 4, 3) := by decide +kernel
theorem dX1_peek_20 : decode cX1_peek 20 = .ok (.iconst (-1), 1) := by decide +kernel
theorem dX1_peek_21 : decode cX1_peek 21 = .ok (.ireturn, 1) := by decide +kernel
abbrev cX1_mark : ByteArray := prog_3_method_13_code
def yX1_mark : MethodName := ⟨RX1, "mark", "(I)Z"⟩
theorem dX1_mark_0 : decode cX1_mark 0 = .ok (.iload_n 1, 1) := by decide +kernel
theorem dX1_mark_1 : decode cX1_mark 1 = .ok (.ifCond .lt 9, 3) := by decide +kernel
theorem dX1_mark_4 : decode cX1_mark 4 = .ok (.iload_n 1, 1) := by decide +kernel
theorem dX1_mark_5 : decode cX1_mark 5 = .ok (.bipush 7, 2) := by decide +kernel
theorem dX1_mark_7 : decode cX1_mark 7 = .ok (.if_icmp .le 5, 3) := by decide +kernel
theorem dX1_mark_10 : decode cX1_mark 10 = .ok (.iconst 0, 1) := by decide +kernel
theorem dX1_mark_11 : decode cX1_mark 11 = .ok (.ireturn, 1) := by decide +kernel
theorem dX1_mark_12 : decode cX1_mark 12 = .ok (.aload_n 0, 1) := by decide +kernel
theorem dX1_mark_13 : decode cX1_mark 13 = .ok (.getfield 7, 3) := by decide +kernel
theorem dX1_mark_16 : decode cX1_mark 16 = .ok (.iload_n 1, 1) := by decide +kernel
theorem dX1_mark_17 : decode cX1_mark 17 = .ok (.aload_n 0, 1) := by decide +kernel
theorem dX1_mark_18 : decode cX1_mark 18 = .ok (.getfield 13, 3) := by decide +kernel
theorem dX1_mark_21 : decode cX1_mark 21 = .ok (.iastore, 1) := by decide +kernel
theorem dX1_mark_22 : decode cX1_mark 22 = .ok (.iconst 1, 1) := by decide +kernel
theorem dX1_mark_23 : decode cX1_mark 23 = .ok (.ireturn, 1) := by decide +kernel
abbrev cX1_back : ByteArray := prog_3_method_14_code
def yX1_back : MethodName := ⟨RX1, "back", "(I)Z"⟩
theorem dX1_back_0 : decode cX1_back 0 = .ok (.aload_n 0, 1) := by decide +kernel
theorem dX1_back_1 : decode cX1_back 1 = .ok (.iload_n 1, 1) := by decide +kernel
theorem dX1_back_2 : decode cX1_back 2 = .ok (.invokevirtual 38, 3) := by decide +kernel
theorem dX1_back_5 : decode cX1_back 5 = .ok (.ifCond .ne 5, 3) := by decide +kernel
theorem dX1_back_8 : decode cX1_back 8 = .ok (.iconst 0, 1) := by decide +kernel
theorem dX1_back_9 : decode cX1_back 9 = .ok (.ireturn, 1) := by decide +kernel
theorem dX1_back_10 : decode cX1_back 10 = .ok (.aload_n 0, 1) := by decide +kernel
theorem dX1_back_11 : decode cX1_back 11 = .ok (.aload_n 0, 1) := by decide +kernel
theorem dX1_back_12 : decode cX1_back 12 = .ok (.getfield 7, 3) := by decide +kernel
theorem dX1_back_15 : decode cX1_back 15 = .ok (.iload_n 1, 1) := by decide +kernel
theorem dX1_back_16 : decode cX1_back 16 = .ok (.iaload, 1) := by decide +kernel
theorem dX1_back_17 : decode cX1_back 17 = .ok (.putfield 13, 3) := by decide +kernel
theorem dX1_back_20 : decode cX1_back 20 = .ok (.iconst 1, 1) := by decide +kernel
theorem dX1_back_21 : decode cX1_back 21 = .ok (.ireturn, 1) := by decide +kernel
abbrev cX1_holds : ByteArray := prog_3_method_12_code
def yX1_holds : MethodName := ⟨RX1, "holds", "(I)Z"⟩
theorem dX1_holds_0 : decode cX1_holds 0 = .ok (.iload_n 1, 1) := by decide +kernel
theorem dX1_holds_1 : decode cX1_holds 1 = .ok (.ifCond .lt 22, 3) := by decide +kernel
theorem dX1_holds_4 : decode cX1_holds 4 = .ok (.iload_n 1, 1) := by decide +kernel
theorem dX1_holds_5 : decode cX1_holds 5 = .ok (.bipush 7, 2) := by decide +kernel
theorem dX1_holds_7 : decode cX1_holds 7 = .ok (.if_icmp .gt 16, 3) := by decide +kernel
theorem dX1_holds_10 : decode cX1_holds 10 = .ok (.aload_n 0, 1) := by decide +kernel
theorem dX1_holds_11 : decode cX1_holds 11 = .ok (.getfield 7, 3) := by decide +kernel
theorem dX1_holds_14 : decode cX1_holds 14 = .ok (.iload_n 1, 1) := by decide +kernel
theorem dX1_holds_15 : decode cX1_holds 15 = .ok (.iaload, 1) := by decide +kernel
theorem dX1_holds_16 : decode cX1_holds 16 = .ok (.ifCond .le 7, 3) := by decide +kernel
theorem dX1_holds_19 : decode cX1_holds 19 = .ok (.iconst 1, 1) := by decide +kernel
theorem dX1_holds_20 : decode cX1_holds 20 = .ok (.goto 4, 3) := by decide +kernel
theorem dX1_holds_23 : decode cX1_holds 23 = .ok (.iconst 0, 1) := by decide +kernel
theorem dX1_holds_24 : decode cX1_holds 24 = .ok (.ireturn, 1) := by decide +kernel
abbrev cX1_distance : ByteArray := prog_3_method_16_code
def yX1_distance : MethodName := ⟨RX1, "distance", "(I)I"⟩
theorem dX1_distance_0 : decode cX1_distance 0 = .ok (.aload_n 0, 1) := by decide +kernel
theorem dX1_distance_1 : decode cX1_distance 1 = .ok (.iload_n 1, 1) := by decide +kernel
theorem dX1_distance_2 : decode cX1_distance 2 = .ok (.invokevirtual 27, 3) := by decide +kernel
theorem dX1_distance_5 : decode cX1_distance 5 = .ok (.ifCond .eq 15, 3) := by decide +kernel
theorem dX1_distance_8 : decode cX1_distance 8 = .ok (.aload_n 0, 1) := by decide +kernel
theorem dX1_distance_9 : decode cX1_distance 9 = .ok (.aload_n 0, 1) := by decide +kernel
theorem dX1_distance_10 : decode cX1_distance 10 = .ok (.getfield 13, 3) := by decide +kernel
theorem dX1_distance_13 : decode cX1_distance 13 = .ok (.iload_n 1, 1) := by decide +kernel
theorem dX1_distance_14 : decode cX1_distance 14 = .ok (.invokevirtual 41, 3) := by decide +kernel
theorem dX1_distance_17 : decode cX1_distance 17 = .ok (.goto 4, 3) := by decide +kernel
theorem dX1_distance_20 : decode cX1_distance 20 = .ok (.iconst (-1), 1) := by decide +kernel
theorem dX1_distance_21 : decode cX1_distance 21 = .ok (.ireturn, 1) := by decide +kernel
abbrev cX1_steps : ByteArray := prog_3_method_15_code
def yX1_steps : MethodName := ⟨RX1, "steps", "(II)I"⟩
theorem dX1_steps_0 : decode cX1_steps 0 = .ok (.iload_n 1, 1) := by decide +kernel
theorem dX1_steps_1 : decode cX1_steps 1 = .ok (.istore_n 3, 1) := by decide +kernel
theorem dX1_steps_2 : decode cX1_steps 2 = .ok (.iconst 0, 1) := by decide +kernel
theorem dX1_steps_3 : decode cX1_steps 3 = .ok (.istore 4, 2) := by decide +kernel
theorem dX1_steps_5 : decode cX1_steps 5 = .ok (.iload 4, 2) := by decide +kernel
theorem dX1_steps_7 : decode cX1_steps 7 = .ok (.ldc 17, 2) := by decide +kernel
theorem dX1_steps_9 : decode cX1_steps 9 = .ok (.if_icmp .ge 23, 3) := by decide +kernel
theorem dX1_steps_12 : decode cX1_steps 12 = .ok (.iload_n 3, 1) := by decide +kernel
theorem dX1_steps_13 : decode cX1_steps 13 = .ok (.iload_n 2, 1) := by decide +kernel
theorem dX1_steps_14 : decode cX1_steps 14 = .ok (.if_icmp .ne 6, 3) := by decide +kernel
theorem dX1_steps_17 : decode cX1_steps 17 = .ok (.iload 4, 2) := by decide +kernel
theorem dX1_steps_19 : decode cX1_steps 19 = .ok (.ireturn, 1) := by decide +kernel
theorem dX1_steps_20 : decode cX1_steps 20 = .ok (.aload_n 0, 1) := by decide +kernel
theorem dX1_steps_21 : decode cX1_steps 21 = .ok (.iload_n 3, 1) := by decide +kernel
theorem dX1_steps_22 : decode cX1_steps 22 = .ok (.invokevirtual 18, 3) := by decide +kernel
theorem dX1_steps_25 : decode cX1_steps 25 = .ok (.istore_n 3, 1) := by decide +kernel
theorem dX1_steps_26 : decode cX1_steps 26 = .ok (.iinc 4 1, 3) := by decide +kernel
theorem dX1_steps_29 : decode cX1_steps 29 = .ok (.goto (-24), 3) := by decide +kernel
theorem dX1_steps_32 : decode cX1_steps 32 = .ok (.iconst (-1), 1) := by decide +kernel
theorem dX1_steps_33 : decode cX1_steps 33 = .ok (.ireturn, 1) := by decide +kernel
abbrev cX1_between : ByteArray := prog_3_method_17_code
def yX1_between : MethodName := ⟨RX1, "between", "(II)I"⟩
theorem dX1_between_0 : decode cX1_between 0 = .ok (.aload_n 0, 1) := by decide +kernel
theorem dX1_between_1 : decode cX1_between 1 = .ok (.iload_n 1, 1) := by decide +kernel
theorem dX1_between_2 : decode cX1_between 2 = .ok (.invokevirtual 38, 3) := by decide +kernel
theorem dX1_between_5 : decode cX1_between 5 = .ok (.ifCond .eq 30, 3) := by decide +kernel
theorem dX1_between_8 : decode cX1_between 8 = .ok (.aload_n 0, 1) := by decide +kernel
theorem dX1_between_9 : decode cX1_between 9 = .ok (.iload_n 2, 1) := by decide +kernel
theorem dX1_between_10 : decode cX1_between 10 = .ok (.invokevirtual 38, 3) := by decide +kernel
theorem dX1_between_13 : decode cX1_between 13 = .ok (.ifCond .eq 22, 3) := by decide +kernel
theorem dX1_between_16 : decode cX1_between 16 = .ok (.aload_n 0, 1) := by decide +kernel
theorem dX1_between_17 : decode cX1_between 17 = .ok (.aload_n 0, 1) := by decide +kernel
theorem dX1_between_18 : decode cX1_between 18 = .ok (.getfield 7, 3) := by decide +kernel
theorem dX1_between_21 : decode cX1_between 21 = .ok (.iload_n 1, 1) := by decide +kernel
theorem dX1_between_22 : decode cX1_between 22 = .ok (.iaload, 1) := by decide +kernel
theorem dX1_between_23 : decode cX1_between 23 = .ok (.aload_n 0, 1) := by decide +kernel
theorem dX1_between_24 : decode cX1_between 24 = .ok (.getfield 7, 3) := by decide +kernel
theorem dX1_between_27 : decode cX1_between 27 = .ok (.iload_n 2, 1) := by decide +kernel
theorem dX1_between_28 : decode cX1_between 28 = .ok (.iaload, 1) := by decide +kernel
theorem dX1_between_29 : decode cX1_between 29 = .ok (.invokevirtual 41, 3) := by decide +kernel
theorem dX1_between_32 : decode cX1_between 32 = .ok (.goto 4, 3) := by decide +kernel
theorem dX1_between_35 : decode cX1_between 35 = .ok (.iconst (-1), 1) := by decide +kernel
theorem dX1_between_36 : decode cX1_between 36 = .ok (.ireturn, 1) := by decide +kernel
abbrev cX1_mixed : ByteArray := prog_3_method_18_code
def yX1_mixed : MethodName := ⟨RX1, "mixed", "(I)I"⟩
theorem dX1_mixed_0 : decode cX1_mixed 0 = .ok (.aload_n 0, 1) := by decide +kernel
theorem dX1_mixed_1 : decode cX1_mixed 1 = .ok (.getfield 13, 3) := by decide +kernel
theorem dX1_mixed_4 : decode cX1_mixed 4 = .ok (.istore_n 2, 1) := by decide +kernel
theorem dX1_mixed_5 : decode cX1_mixed 5 = .ok (.iconst 0, 1) := by decide +kernel
theorem dX1_mixed_6 : decode cX1_mixed 6 = .ok (.istore_n 3, 1) := by decide +kernel
theorem dX1_mixed_7 : decode cX1_mixed 7 = .ok (.iconst 0, 1) := by decide +kernel
theorem dX1_mixed_8 : decode cX1_mixed 8 = .ok (.istore 4, 2) := by decide +kernel
theorem dX1_mixed_10 : decode cX1_mixed 10 = .ok (.iload 4, 2) := by decide +kernel
theorem dX1_mixed_12 : decode cX1_mixed 12 = .ok (.iload_n 1, 1) := by decide +kernel
theorem dX1_mixed_13 : decode cX1_mixed 13 = .ok (.if_icmp .ge 25, 3) := by decide +kernel
theorem dX1_mixed_16 : decode cX1_mixed 16 = .ok (.iload_n 1, 1) := by decide +kernel
theorem dX1_mixed_17 : decode cX1_mixed 17 = .ok (.ldc 26, 2) := by decide +kernel
theorem dX1_mixed_19 : decode cX1_mixed 19 = .ok (.if_icmp .gt 19, 3) := by decide +kernel
theorem dX1_mixed_22 : decode cX1_mixed 22 = .ok (.iload_n 3, 1) := by decide +kernel
theorem dX1_mixed_23 : decode cX1_mixed 23 = .ok (.iload_n 2, 1) := by decide +kernel
theorem dX1_mixed_24 : decode cX1_mixed 24 = .ok (.ixor, 1) := by decide +kernel
theorem dX1_mixed_25 : decode cX1_mixed 25 = .ok (.istore_n 3, 1) := by decide +kernel
theorem dX1_mixed_26 : decode cX1_mixed 26 = .ok (.aload_n 0, 1) := by decide +kernel
theorem dX1_mixed_27 : decode cX1_mixed 27 = .ok (.iload_n 2, 1) := by decide +kernel
theorem dX1_mixed_28 : decode cX1_mixed 28 = .ok (.invokevirtual 18, 3) := by decide +kernel
theorem dX1_mixed_31 : decode cX1_mixed 31 = .ok (.istore_n 2, 1) := by decide +kernel
theorem dX1_mixed_32 : decode cX1_mixed 32 = .ok (.iinc 4 1, 3) := by decide +kernel
theorem dX1_mixed_35 : decode cX1_mixed 35 = .ok (.goto (-25), 3) := by decide +kernel
theorem dX1_mixed_38 : decode cX1_mixed 38 = .ok (.iload_n 1, 1) := by decide +kernel
theorem dX1_mixed_39 : decode cX1_mixed 39 = .ok (.ifCond .lt 9, 3) := by decide +kernel
theorem dX1_mixed_42 : decode cX1_mixed 42 = .ok (.iload_n 1, 1) := by decide +kernel
theorem dX1_mixed_43 : decode cX1_mixed 43 = .ok (.ldc 26, 2) := by decide +kernel
theorem dX1_mixed_45 : decode cX1_mixed 45 = .ok (.if_icmp .le 7, 3) := by decide +kernel
theorem dX1_mixed_48 : decode cX1_mixed 48 = .ok (.iconst (-1), 1) := by decide +kernel
theorem dX1_mixed_49 : decode cX1_mixed 49 = .ok (.goto 4, 3) := by decide +kernel
theorem dX1_mixed_52 : decode cX1_mixed 52 = .ok (.iload_n 3, 1) := by decide +kernel
theorem dX1_mixed_53 : decode cX1_mixed 53 = .ok (.ireturn, 1) := by decide +kernel
abbrev cX1_period : ByteArray := prog_3_method_19_code
def yX1_period : MethodName := ⟨RX1, "period", "()I"⟩
theorem dX1_period_0 : decode cX1_period 0 = .ok (.aload_n 0, 1) := by decide +kernel
theorem dX1_period_1 : decode cX1_period 1 = .ok (.aload_n 0, 1) := by decide +kernel
theorem dX1_period_2 : decode cX1_period 2 = .ok (.getfield 13, 3) := by decide +kernel
theorem dX1_period_5 : decode cX1_period 5 = .ok (.invokevirtual 18, 3) := by decide +kernel
theorem dX1_period_8 : decode cX1_period 8 = .ok (.istore_n 1, 1) := by decide +kernel
theorem dX1_period_9 : decode cX1_period 9 = .ok (.aload_n 0, 1) := by decide +kernel
theorem dX1_period_10 : decode cX1_period 10 = .ok (.iload_n 1, 1) := by decide +kernel
theorem dX1_period_11 : decode cX1_period 11 = .ok (.aload_n 0, 1) := by decide +kernel
theorem dX1_period_12 : decode cX1_period 12 = .ok (.getfield 13, 3) := by decide +kernel
theorem dX1_period_15 : decode cX1_period 15 = .ok (.invokevirtual 41, 3) := by decide +kernel
theorem dX1_period_18 : decode cX1_period 18 = .ok (.iconst 1, 1) := by decide +kernel
theorem dX1_period_19 : decode cX1_period 19 = .ok (.iadd, 1) := by decide +kernel
theorem dX1_period_20 : decode cX1_period 20 = .ok (.ireturn, 1) := by decide +kernel
abbrev cX1_before : ByteArray := prog_3_method_20_code
def yX1_before : MethodName := ⟨RX1, "before", "(II)I"⟩
theorem dX1_before_0 : decode cX1_before 0 = .ok (.aload_n 0, 1) := by decide +kernel
theorem dX1_before_1 : decode cX1_before 1 = .ok (.iload_n 1, 1) := by decide +kernel
theorem dX1_before_2 : decode cX1_before 2 = .ok (.invokevirtual 27, 3) := by decide +kernel
theorem dX1_before_5 : decode cX1_before 5 = .ok (.ifCond .eq 23, 3) := by decide +kernel
theorem dX1_before_8 : decode cX1_before 8 = .ok (.iload_n 2, 1) := by decide +kernel
theorem dX1_before_9 : decode cX1_before 9 = .ok (.ifCond .lt 19, 3) := by decide +kernel
theorem dX1_before_12 : decode cX1_before 12 = .ok (.iload_n 2, 1) := by decide +kernel
theorem dX1_before_13 : decode cX1_before 13 = .ok (.ldc 26, 2) := by decide +kernel
theorem dX1_before_15 : decode cX1_before 15 = .ok (.if_icmp .gt 13, 3) := by decide +kernel
theorem dX1_before_18 : decode cX1_before 18 = .ok (.aload_n 0, 1) := by decide +kernel
theorem dX1_before_19 : decode cX1_before 19 = .ok (.iload_n 1, 1) := by decide +kernel
theorem dX1_before_20 : decode cX1_before 20 = .ok (.iload_n 2, 1) := by decide +kernel
theorem dX1_before_21 : decode cX1_before 21 = .ok (.ineg, 1) := by decide +kernel
theorem dX1_before_22 : decode cX1_before 22 = .ok (.invokevirtual 34, 3) := by decide +kernel
theorem dX1_before_25 : decode cX1_before 25 = .ok (.goto 4, 3) := by decide +kernel
theorem dX1_before_28 : decode cX1_before 28 = .ok (.iconst (-1), 1) := by decide +kernel
theorem dX1_before_29 : decode cX1_before 29 = .ok (.ireturn, 1) := by decide +kernel
abbrev cX1_apart : ByteArray := prog_3_method_21_code
def yX1_apart : MethodName := ⟨RX1, "apart", "(III)I"⟩
theorem dX1_apart_0 : decode cX1_apart 0 = .ok (.aload_n 0, 1) := by decide +kernel
theorem dX1_apart_1 : decode cX1_apart 1 = .ok (.iload_n 1, 1) := by decide +kernel
theorem dX1_apart_2 : decode cX1_apart 2 = .ok (.invokevirtual 27, 3) := by decide +kernel
theorem dX1_apart_5 : decode cX1_apart 5 = .ok (.ifCond .eq 37, 3) := by decide +kernel
theorem dX1_apart_8 : decode cX1_apart 8 = .ok (.aload_n 0, 1) := by decide +kernel
theorem dX1_apart_9 : decode cX1_apart 9 = .ok (.iload_n 2, 1) := by decide +kernel
theorem dX1_apart_10 : decode cX1_apart 10 = .ok (.invokevirtual 27, 3) := by decide +kernel
theorem dX1_apart_13 : decode cX1_apart 13 = .ok (.ifCond .eq 29, 3) := by decide +kernel
theorem dX1_apart_16 : decode cX1_apart 16 = .ok (.iload_n 3, 1) := by decide +kernel
theorem dX1_apart_17 : decode cX1_apart 17 = .ok (.ifCond .lt 25, 3) := by decide +kernel
theorem dX1_apart_20 : decode cX1_apart 20 = .ok (.iload_n 3, 1) := by decide +kernel
theorem dX1_apart_21 : decode cX1_apart 21 = .ok (.ldc 26, 2) := by decide +kernel
theorem dX1_apart_23 : decode cX1_apart 23 = .ok (.if_icmp .gt 19, 3) := by decide +kernel
theorem dX1_apart_26 : decode cX1_apart 26 = .ok (.aload_n 0, 1) := by decide +kernel
theorem dX1_apart_27 : decode cX1_apart 27 = .ok (.iload_n 1, 1) := by decide +kernel
theorem dX1_apart_28 : decode cX1_apart 28 = .ok (.iload_n 3, 1) := by decide +kernel
theorem dX1_apart_29 : decode cX1_apart 29 = .ok (.invokevirtual 34, 3) := by decide +kernel
theorem dX1_apart_32 : decode cX1_apart 32 = .ok (.aload_n 0, 1) := by decide +kernel
theorem dX1_apart_33 : decode cX1_apart 33 = .ok (.iload_n 2, 1) := by decide +kernel
theorem dX1_apart_34 : decode cX1_apart 34 = .ok (.iload_n 3, 1) := by decide +kernel
theorem dX1_apart_35 : decode cX1_apart 35 = .ok (.invokevirtual 34, 3) := by decide +kernel
theorem dX1_apart_38 : decode cX1_apart 38 = .ok (.ixor, 1) := by decide +kernel
theorem dX1_apart_39 : decode cX1_apart 39 = .ok (.goto 4, 3) := by decide +kernel
theorem dX1_apart_42 : decode cX1_apart 42 = .ok (.iconst (-1), 1) := by decide +kernel
theorem dX1_apart_43 : decode cX1_apart 43 = .ok (.ireturn, 1) := by decide +kernel
abbrev cX1_nextRound : ByteArray := prog_3_method_22_code
def yX1_nextRound : MethodName := ⟨RX1, "nextRound", "(I)I"⟩
theorem dX1_nextRound_0 : decode cX1_nextRound 0 = .ok (.aload_n 0, 1) := by decide +kernel
theorem dX1_nextRound_1 : decode cX1_nextRound 1 = .ok (.getfield 13, 3) := by decide +kernel
theorem dX1_nextRound_4 : decode cX1_nextRound 4 = .ok (.istore_n 2, 1) := by decide +kernel
theorem dX1_nextRound_5 : decode cX1_nextRound 5 = .ok (.iconst 0, 1) := by decide +kernel
theorem dX1_nextRound_6 : decode cX1_nextRound 6 = .ok (.istore_n 3, 1) := by decide +kernel
theorem dX1_nextRound_7 : decode cX1_nextRound 7 = .ok (.iload_n 3, 1) := by decide +kernel
theorem dX1_nextRound_8 : decode cX1_nextRound 8 = .ok (.ldc 26, 2) := by decide +kernel
theorem dX1_nextRound_10 : decode cX1_nextRound 10 = .ok (.if_icmp .gt 37, 3) := by decide +kernel
theorem dX1_nextRound_13 : decode cX1_nextRound 13 = .ok (.iload_n 1, 1) := by decide +kernel
theorem dX1_nextRound_14 : decode cX1_nextRound 14 = .ok (.ifCond .lt 33, 3) := by decide +kernel
theorem dX1_nextRound_17 : decode cX1_nextRound 17 = .ok (.iload_n 1, 1) := by decide +kernel
theorem dX1_nextRound_18 : decode cX1_nextRound 18 = .ok (.bipush 8, 2) := by decide +kernel
theorem dX1_nextRound_20 : decode cX1_nextRound 20 = .ok (.if_icmp .gt 27, 3) := by decide +kernel
theorem dX1_nextRound_23 : decode cX1_nextRound 23 = .ok (.iload_n 2, 1) := by decide +kernel
theorem dX1_nextRound_24 : decode cX1_nextRound 24 = .ok (.iconst 1, 1) := by decide +kernel
theorem dX1_nextRound_25 : decode cX1_nextRound 25 = .ok (.iload_n 1, 1) := by decide +kernel
theorem dX1_nextRound_26 : decode cX1_nextRound 26 = .ok (.ishl, 1) := by decide +kernel
theorem dX1_nextRound_27 : decode cX1_nextRound 27 = .ok (.iconst 1, 1) := by decide +kernel
theorem dX1_nextRound_28 : decode cX1_nextRound 28 = .ok (.isub, 1) := by decide +kernel
theorem dX1_nextRound_29 : decode cX1_nextRound 29 = .ok (.iand, 1) := by decide +kernel
theorem dX1_nextRound_30 : decode cX1_nextRound 30 = .ok (.ifCond .ne 5, 3) := by decide +kernel
theorem dX1_nextRound_33 : decode cX1_nextRound 33 = .ok (.iload_n 3, 1) := by decide +kernel
theorem dX1_nextRound_34 : decode cX1_nextRound 34 = .ok (.ireturn, 1) := by decide +kernel
theorem dX1_nextRound_35 : decode cX1_nextRound 35 = .ok (.aload_n 0, 1) := by decide +kernel
theorem dX1_nextRound_36 : decode cX1_nextRound 36 = .ok (.iload_n 2, 1) := by decide +kernel
theorem dX1_nextRound_37 : decode cX1_nextRound 37 = .ok (.invokevirtual 18, 3) := by decide +kernel
theorem dX1_nextRound_40 : decode cX1_nextRound 40 = .ok (.istore_n 2, 1) := by decide +kernel
theorem dX1_nextRound_41 : decode cX1_nextRound 41 = .ok (.iinc 3 1, 3) := by decide +kernel
theorem dX1_nextRound_44 : decode cX1_nextRound 44 = .ok (.goto (-37), 3) := by decide +kernel
theorem dX1_nextRound_47 : decode cX1_nextRound 47 = .ok (.iconst (-1), 1) := by decide +kernel
theorem dX1_nextRound_48 : decode cX1_nextRound 48 = .ok (.ireturn, 1) := by decide +kernel
theorem q14 : (Jvm.Cond.initialized "JumpGeneratorModel") ∈ lw_all := lw_g (lw_at lw_m0 2 rfl) rfl
theorem q131 : (Jvm.Cond.instantiable "JumpGeneratorModel" (2 : Nat)) ∈ lw_all := lw_g (lw_at lw_m0 119 rfl) rfl
theorem q133 : (Jvm.Cond.instanceMethod ({ cls := "JumpGeneratorModel", name := "<init>", desc := "()V" } : Jvm.MethodName)) ∈ lw_all := lw_g (lw_at lw_m0 121 rfl) rfl
theorem q134 : (Jvm.Cond.code ({ cls := "JumpGeneratorModel", name := "<init>", desc := "()V" } : Jvm.MethodName) prog_3_method_1_code (1 : Nat) (Option.none : Option Jvm.ClassFile.FieldType)) ∈ lw_all := lw_g (lw_at lw_m0 122 rfl) rfl
theorem q135 : (Jvm.Cond.methodLink "JumpGeneratorModel" (1 : Nat) ({ cls := "java/lang/Object", name := "<init>", desc := "()V" } : Jvm.MethodName)) ∈ lw_all := lw_g (lw_at lw_m0 123 rfl) rfl
theorem q136 : (Jvm.Cond.fieldLink "JumpGeneratorModel" (13 : Nat) "JumpGeneratorModel" "now" "I") ∈ lw_all := lw_g (lw_at lw_m0 124 rfl) rfl
theorem q137 : (Jvm.Cond.fieldLink "JumpGeneratorModel" (7 : Nat) "JumpGeneratorModel" "marks" "[I") ∈ lw_all := lw_g (lw_at lw_m0 125 rfl) rfl
theorem q138 : (Jvm.Cond.lays "JumpGeneratorModel" "JumpGeneratorModel" "now" "I") ∈ lw_all := lw_g (lw_at lw_m0 126 rfl) rfl
theorem q139 : (Jvm.Cond.soleField "JumpGeneratorModel" "now") ∈ lw_all := lw_g (lw_at lw_m0 127 rfl) rfl
theorem q140 : (Jvm.Cond.lays "JumpGeneratorModel" "JumpGeneratorModel" "marks" "[I") ∈ lw_all := lw_g (lw_at lw_m0 128 rfl) rfl
theorem q141 : (Jvm.Cond.soleField "JumpGeneratorModel" "marks") ∈ lw_all := lw_g (lw_at lw_m0 129 rfl) rfl
theorem q142 : (Jvm.Cond.superclass "JumpGeneratorModel" "java/lang/Object") ∈ lw_all := lw_g (lw_at lw_m0 130 rfl) rfl
theorem q144 : (Jvm.Cond.instanceMethod ({ cls := "JumpGeneratorModel", name := "seed", desc := "(I)Z" } : Jvm.MethodName)) ∈ lw_all := lw_g (lw_at lw_m0 132 rfl) rfl
theorem q145 : (Jvm.Cond.selects "JumpGeneratorModel" ({ cls := "JumpGeneratorModel", name := "seed", desc := "(I)Z" } : Jvm.MethodName) ({ cls := "JumpGeneratorModel", name := "seed", desc := "(I)Z" } : Jvm.MethodName)) ∈ lw_all := lw_g (lw_at lw_m0 133 rfl) rfl
theorem q146 : (Jvm.Cond.code ({ cls := "JumpGeneratorModel", name := "seed", desc := "(I)Z" } : Jvm.MethodName) prog_3_method_7_code (2 : Nat) (Option.some Jvm.ClassFile.FieldType.boolean)) ∈ lw_all := lw_g (lw_at lw_m0 134 rfl) rfl
theorem q147 : (Jvm.Cond.methodLink "JumpGeneratorModel" (27 : Nat) ({ cls := "JumpGeneratorModel", name := "isState", desc := "(I)Z" } : Jvm.MethodName)) ∈ lw_all := lw_g (lw_at lw_m0 135 rfl) rfl
theorem q148 : (Jvm.Cond.privateMethod ({ cls := "JumpGeneratorModel", name := "isState", desc := "(I)Z" } : Jvm.MethodName)) ∈ lw_tbl := lw_at lw_m0 136 rfl
theorem q149 : (Jvm.Cond.instanceMethod ({ cls := "JumpGeneratorModel", name := "isState", desc := "(I)Z" } : Jvm.MethodName)) ∈ lw_all := lw_g (lw_at lw_m0 137 rfl) rfl
theorem q150 : (Jvm.Cond.code ({ cls := "JumpGeneratorModel", name := "isState", desc := "(I)Z" } : Jvm.MethodName) prog_3_method_2_code (2 : Nat) (Option.some Jvm.ClassFile.FieldType.boolean)) ∈ lw_all := lw_g (lw_at lw_m0 138 rfl) rfl
theorem q151 : (Jvm.Cond.constant "JumpGeneratorModel" (17 : Nat) (65535 : Int32)) ∈ lw_all := lw_g (lw_at lw_m0 139 rfl) rfl
theorem q153 : (Jvm.Cond.instanceMethod ({ cls := "JumpGeneratorModel", name := "state", desc := "()I" } : Jvm.MethodName)) ∈ lw_all := lw_g (lw_at lw_m0 141 rfl) rfl
theorem q154 : (Jvm.Cond.selects "JumpGeneratorModel" ({ cls := "JumpGeneratorModel", name := "state", desc := "()I" } : Jvm.MethodName) ({ cls := "JumpGeneratorModel", name := "state", desc := "()I" } : Jvm.MethodName)) ∈ lw_all := lw_g (lw_at lw_m0 142 rfl) rfl
theorem q155 : (Jvm.Cond.code ({ cls := "JumpGeneratorModel", name := "state", desc := "()I" } : Jvm.MethodName) prog_3_method_8_code (1 : Nat) (Option.some Jvm.ClassFile.FieldType.int)) ∈ lw_all := lw_g (lw_at lw_m0 143 rfl) rfl
theorem q157 : (Jvm.Cond.instanceMethod ({ cls := "JumpGeneratorModel", name := "next", desc := "()I" } : Jvm.MethodName)) ∈ lw_all := lw_g (lw_at lw_m0 145 rfl) rfl
theorem q158 : (Jvm.Cond.selects "JumpGeneratorModel" ({ cls := "JumpGeneratorModel", name := "next", desc := "()I" } : Jvm.MethodName) ({ cls := "JumpGeneratorModel", name := "next", desc := "()I" } : Jvm.MethodName)) ∈ lw_all := lw_g (lw_at lw_m0 146 rfl) rfl
theorem q159 : (Jvm.Cond.code ({ cls := "JumpGeneratorModel", name := "next", desc := "()I" } : Jvm.MethodName) prog_3_method_9_code (1 : Nat) (Option.some Jvm.ClassFile.FieldType.int)) ∈ lw_all := lw_g (lw_at lw_m0 147 rfl) rfl
theorem q160 : (Jvm.Cond.methodLink "JumpGeneratorModel" (18 : Nat) ({ cls := "JumpGeneratorModel", name := "step", desc := "(I)I" } : Jvm.MethodName)) ∈ lw_all := lw_g (lw_at lw_m0 148 rfl) rfl
theorem q161 : (Jvm.Cond.privateMethod ({ cls := "JumpGeneratorModel", name := "step", desc := "(I)I" } : Jvm.MethodName)) ∈ lw_tbl := lw_at lw_m0 149 rfl
theorem q162 : (Jvm.Cond.instanceMethod ({ cls := "JumpGeneratorModel", name := "step", desc := "(I)I" } : Jvm.MethodName)) ∈ lw_all := lw_g (lw_at lw_m0 150 rfl) rfl
theorem q163 : (Jvm.Cond.code ({ cls := "JumpGeneratorModel", name := "step", desc := "(I)I" } : Jvm.MethodName) prog_3_method_3_code (4 : Nat) (Option.some Jvm.ClassFile.FieldType.int)) ∈ lw_all := lw_g (lw_at lw_m0 151 rfl) rfl
theorem q165 : (Jvm.Cond.instanceMethod ({ cls := "JumpGeneratorModel", name := "jump", desc := "(I)I" } : Jvm.MethodName)) ∈ lw_all := lw_g (lw_at lw_m0 153 rfl) rfl
theorem q166 : (Jvm.Cond.selects "JumpGeneratorModel" ({ cls := "JumpGeneratorModel", name := "jump", desc := "(I)I" } : Jvm.MethodName) ({ cls := "JumpGeneratorModel", name := "jump", desc := "(I)I" } : Jvm.MethodName)) ∈ lw_all := lw_g (lw_at lw_m0 154 rfl) rfl
theorem q167 : (Jvm.Cond.code ({ cls := "JumpGeneratorModel", name := "jump", desc := "(I)I" } : Jvm.MethodName) prog_3_method_10_code (2 : Nat) (Option.some Jvm.ClassFile.FieldType.int)) ∈ lw_all := lw_g (lw_at lw_m0 155 rfl) rfl
theorem q168 : (Jvm.Cond.methodLink "JumpGeneratorModel" (31 : Nat) ({ cls := "JumpGeneratorModel", name := "near", desc := "(I)Z" } : Jvm.MethodName)) ∈ lw_all := lw_g (lw_at lw_m0 156 rfl) rfl
theorem q169 : (Jvm.Cond.privateMethod ({ cls := "JumpGeneratorModel", name := "near", desc := "(I)Z" } : Jvm.MethodName)) ∈ lw_tbl := lw_at lw_m0 157 rfl
theorem q170 : (Jvm.Cond.instanceMethod ({ cls := "JumpGeneratorModel", name := "near", desc := "(I)Z" } : Jvm.MethodName)) ∈ lw_all := lw_g (lw_at lw_m0 158 rfl) rfl
theorem q171 : (Jvm.Cond.code ({ cls := "JumpGeneratorModel", name := "near", desc := "(I)Z" } : Jvm.MethodName) prog_3_method_6_code (2 : Nat) (Option.some Jvm.ClassFile.FieldType.boolean)) ∈ lw_all := lw_g (lw_at lw_m0 159 rfl) rfl
theorem q172 : (Jvm.Cond.constant "JumpGeneratorModel" (25 : Nat) (-100000 : Int32)) ∈ lw_all := lw_g (lw_at lw_m0 160 rfl) rfl
theorem q173 : (Jvm.Cond.constant "JumpGeneratorModel" (26 : Nat) (100000 : Int32)) ∈ lw_all := lw_g (lw_at lw_m0 161 rfl) rfl
theorem q174 : (Jvm.Cond.methodLink "JumpGeneratorModel" (34 : Nat) ({ cls := "JumpGeneratorModel", name := "go", desc := "(II)I" } : Jvm.MethodName)) ∈ lw_all := lw_g (lw_at lw_m0 162 rfl) rfl
theorem q175 : (Jvm.Cond.privateMethod ({ cls := "JumpGeneratorModel", name := "go", desc := "(II)I" } : Jvm.MethodName)) ∈ lw_tbl := lw_at lw_m0 163 rfl
theorem q176 : (Jvm.Cond.instanceMethod ({ cls := "JumpGeneratorModel", name := "go", desc := "(II)I" } : Jvm.MethodName)) ∈ lw_all := lw_g (lw_at lw_m0 164 rfl) rfl
theorem q177 : (Jvm.Cond.code ({ cls := "JumpGeneratorModel", name := "go", desc := "(II)I" } : Jvm.MethodName) prog_3_method_5_code (5 : Nat) (Option.some Jvm.ClassFile.FieldType.int)) ∈ lw_all := lw_g (lw_at lw_m0 165 rfl) rfl
theorem q178 : (Jvm.Cond.methodLink "JumpGeneratorModel" (22 : Nat) ({ cls := "JumpGeneratorModel", name := "stepBack", desc := "(I)I" } : Jvm.MethodName)) ∈ lw_all := lw_g (lw_at lw_m0 166 rfl) rfl
theorem q179 : (Jvm.Cond.privateMethod ({ cls := "JumpGeneratorModel", name := "stepBack", desc := "(I)I" } : Jvm.MethodName)) ∈ lw_tbl := lw_at lw_m0 167 rfl
theorem q180 : (Jvm.Cond.instanceMethod ({ cls := "JumpGeneratorModel", name := "stepBack", desc := "(I)I" } : Jvm.MethodName)) ∈ lw_all := lw_g (lw_at lw_m0 168 rfl) rfl
theorem q181 : (Jvm.Cond.code ({ cls := "JumpGeneratorModel", name := "stepBack", desc := "(I)I" } : Jvm.MethodName) prog_3_method_4_code (4 : Nat) (Option.some Jvm.ClassFile.FieldType.int)) ∈ lw_all := lw_g (lw_at lw_m0 169 rfl) rfl
theorem q183 : (Jvm.Cond.instanceMethod ({ cls := "JumpGeneratorModel", name := "peek", desc := "(I)I" } : Jvm.MethodName)) ∈ lw_all := lw_g (lw_at lw_m0 171 rfl) rfl
theorem q184 : (Jvm.Cond.selects "JumpGeneratorModel" ({ cls := "JumpGeneratorModel", name := "peek", desc := "(I)I" } : Jvm.MethodName) ({ cls := "JumpGeneratorModel", name := "peek", desc := "(I)I" } : Jvm.MethodName)) ∈ lw_all := lw_g (lw_at lw_m0 172 rfl) rfl
theorem q185 : (Jvm.Cond.code ({ cls := "JumpGeneratorModel", name := "peek", desc := "(I)I" } : Jvm.MethodName) prog_3_method_11_code (2 : Nat) (Option.some Jvm.ClassFile.FieldType.int)) ∈ lw_all := lw_g (lw_at lw_m0 173 rfl) rfl
theorem q187 : (Jvm.Cond.instanceMethod ({ cls := "JumpGeneratorModel", name := "mark", desc := "(I)Z" } : Jvm.MethodName)) ∈ lw_all := lw_g (lw_at lw_m0 175 rfl) rfl
theorem q188 : (Jvm.Cond.selects "JumpGeneratorModel" ({ cls := "JumpGeneratorModel", name := "mark", desc := "(I)Z" } : Jvm.MethodName) ({ cls := "JumpGeneratorModel", name := "mark", desc := "(I)Z" } : Jvm.MethodName)) ∈ lw_all := lw_g (lw_at lw_m0 176 rfl) rfl
theorem q189 : (Jvm.Cond.code ({ cls := "JumpGeneratorModel", name := "mark", desc := "(I)Z" } : Jvm.MethodName) prog_3_method_13_code (2 : Nat) (Option.some Jvm.ClassFile.FieldType.boolean)) ∈ lw_all := lw_g (lw_at lw_m0 177 rfl) rfl
theorem q191 : (Jvm.Cond.instanceMethod ({ cls := "JumpGeneratorModel", name := "back", desc := "(I)Z" } : Jvm.MethodName)) ∈ lw_all := lw_g (lw_at lw_m0 179 rfl) rfl
theorem q192 : (Jvm.Cond.selects "JumpGeneratorModel" ({ cls := "JumpGeneratorModel", name := "back", desc := "(I)Z" } : Jvm.MethodName) ({ cls := "JumpGeneratorModel", name := "back", desc := "(I)Z" } : Jvm.MethodName)) ∈ lw_all := lw_g (lw_at lw_m0 180 rfl) rfl
theorem q193 : (Jvm.Cond.code ({ cls := "JumpGeneratorModel", name := "back", desc := "(I)Z" } : Jvm.MethodName) prog_3_method_14_code (2 : Nat) (Option.some Jvm.ClassFile.FieldType.boolean)) ∈ lw_all := lw_g (lw_at lw_m0 181 rfl) rfl
theorem q194 : (Jvm.Cond.methodLink "JumpGeneratorModel" (38 : Nat) ({ cls := "JumpGeneratorModel", name := "holds", desc := "(I)Z" } : Jvm.MethodName)) ∈ lw_all := lw_g (lw_at lw_m0 182 rfl) rfl
theorem q195 : (Jvm.Cond.privateMethod ({ cls := "JumpGeneratorModel", name := "holds", desc := "(I)Z" } : Jvm.MethodName)) ∈ lw_tbl := lw_at lw_m0 183 rfl
theorem q196 : (Jvm.Cond.instanceMethod ({ cls := "JumpGeneratorModel", name := "holds", desc := "(I)Z" } : Jvm.MethodName)) ∈ lw_all := lw_g (lw_at lw_m0 184 rfl) rfl
theorem q197 : (Jvm.Cond.code ({ cls := "JumpGeneratorModel", name := "holds", desc := "(I)Z" } : Jvm.MethodName) prog_3_method_12_code (2 : Nat) (Option.some Jvm.ClassFile.FieldType.boolean)) ∈ lw_all := lw_g (lw_at lw_m0 185 rfl) rfl
theorem q199 : (Jvm.Cond.instanceMethod ({ cls := "JumpGeneratorModel", name := "distance", desc := "(I)I" } : Jvm.MethodName)) ∈ lw_all := lw_g (lw_at lw_m0 187 rfl) rfl
theorem q200 : (Jvm.Cond.selects "JumpGeneratorModel" ({ cls := "JumpGeneratorModel", name := "distance", desc := "(I)I" } : Jvm.MethodName) ({ cls := "JumpGeneratorModel", name := "distance", desc := "(I)I" } : Jvm.MethodName)) ∈ lw_all := lw_g (lw_at lw_m0 188 rfl) rfl
theorem q201 : (Jvm.Cond.code ({ cls := "JumpGeneratorModel", name := "distance", desc := "(I)I" } : Jvm.MethodName) prog_3_method_16_code (2 : Nat) (Option.some Jvm.ClassFile.FieldType.int)) ∈ lw_all := lw_g (lw_at lw_m0 189 rfl) rfl
theorem q202 : (Jvm.Cond.methodLink "JumpGeneratorModel" (41 : Nat) ({ cls := "JumpGeneratorModel", name := "steps", desc := "(II)I" } : Jvm.MethodName)) ∈ lw_all := lw_g (lw_at lw_m0 190 rfl) rfl
theorem q203 : (Jvm.Cond.privateMethod ({ cls := "JumpGeneratorModel", name := "steps", desc := "(II)I" } : Jvm.MethodName)) ∈ lw_tbl := lw_at lw_m0 191 rfl
theorem q204 : (Jvm.Cond.instanceMethod ({ cls := "JumpGeneratorModel", name := "steps", desc := "(II)I" } : Jvm.MethodName)) ∈ lw_all := lw_g (lw_at lw_m0 192 rfl) rfl
theorem q205 : (Jvm.Cond.code ({ cls := "JumpGeneratorModel", name := "steps", desc := "(II)I" } : Jvm.MethodName) prog_3_method_15_code (5 : Nat) (Option.some Jvm.ClassFile.FieldType.int)) ∈ lw_all := lw_g (lw_at lw_m0 193 rfl) rfl
theorem q207 : (Jvm.Cond.instanceMethod ({ cls := "JumpGeneratorModel", name := "between", desc := "(II)I" } : Jvm.MethodName)) ∈ lw_all := lw_g (lw_at lw_m0 195 rfl) rfl
theorem q208 : (Jvm.Cond.selects "JumpGeneratorModel" ({ cls := "JumpGeneratorModel", name := "between", desc := "(II)I" } : Jvm.MethodName) ({ cls := "JumpGeneratorModel", name := "between", desc := "(II)I" } : Jvm.MethodName)) ∈ lw_all := lw_g (lw_at lw_m0 196 rfl) rfl
theorem q209 : (Jvm.Cond.code ({ cls := "JumpGeneratorModel", name := "between", desc := "(II)I" } : Jvm.MethodName) prog_3_method_17_code (3 : Nat) (Option.some Jvm.ClassFile.FieldType.int)) ∈ lw_all := lw_g (lw_at lw_m0 197 rfl) rfl
theorem q211 : (Jvm.Cond.instanceMethod ({ cls := "JumpGeneratorModel", name := "mixed", desc := "(I)I" } : Jvm.MethodName)) ∈ lw_all := lw_g (lw_at lw_m0 199 rfl) rfl
theorem q212 : (Jvm.Cond.selects "JumpGeneratorModel" ({ cls := "JumpGeneratorModel", name := "mixed", desc := "(I)I" } : Jvm.MethodName) ({ cls := "JumpGeneratorModel", name := "mixed", desc := "(I)I" } : Jvm.MethodName)) ∈ lw_all := lw_g (lw_at lw_m0 200 rfl) rfl
theorem q213 : (Jvm.Cond.code ({ cls := "JumpGeneratorModel", name := "mixed", desc := "(I)I" } : Jvm.MethodName) prog_3_method_18_code (5 : Nat) (Option.some Jvm.ClassFile.FieldType.int)) ∈ lw_all := lw_g (lw_at lw_m0 201 rfl) rfl
theorem q215 : (Jvm.Cond.instanceMethod ({ cls := "JumpGeneratorModel", name := "period", desc := "()I" } : Jvm.MethodName)) ∈ lw_all := lw_g (lw_at lw_m0 203 rfl) rfl
theorem q216 : (Jvm.Cond.selects "JumpGeneratorModel" ({ cls := "JumpGeneratorModel", name := "period", desc := "()I" } : Jvm.MethodName) ({ cls := "JumpGeneratorModel", name := "period", desc := "()I" } : Jvm.MethodName)) ∈ lw_all := lw_g (lw_at lw_m0 204 rfl) rfl
theorem q217 : (Jvm.Cond.code ({ cls := "JumpGeneratorModel", name := "period", desc := "()I" } : Jvm.MethodName) prog_3_method_19_code (2 : Nat) (Option.some Jvm.ClassFile.FieldType.int)) ∈ lw_all := lw_g (lw_at lw_m0 205 rfl) rfl
theorem q219 : (Jvm.Cond.instanceMethod ({ cls := "JumpGeneratorModel", name := "before", desc := "(II)I" } : Jvm.MethodName)) ∈ lw_all := lw_g (lw_at lw_m0 207 rfl) rfl
theorem q220 : (Jvm.Cond.selects "JumpGeneratorModel" ({ cls := "JumpGeneratorModel", name := "before", desc := "(II)I" } : Jvm.MethodName) ({ cls := "JumpGeneratorModel", name := "before", desc := "(II)I" } : Jvm.MethodName)) ∈ lw_all := lw_g (lw_at lw_m0 208 rfl) rfl
theorem q221 : (Jvm.Cond.code ({ cls := "JumpGeneratorModel", name := "before", desc := "(II)I" } : Jvm.MethodName) prog_3_method_20_code (3 : Nat) (Option.some Jvm.ClassFile.FieldType.int)) ∈ lw_all := lw_g (lw_at lw_m0 209 rfl) rfl
theorem q223 : (Jvm.Cond.instanceMethod ({ cls := "JumpGeneratorModel", name := "apart", desc := "(III)I" } : Jvm.MethodName)) ∈ lw_all := lw_g (lw_at lw_m0 211 rfl) rfl
theorem q224 : (Jvm.Cond.selects "JumpGeneratorModel" ({ cls := "JumpGeneratorModel", name := "apart", desc := "(III)I" } : Jvm.MethodName) ({ cls := "JumpGeneratorModel", name := "apart", desc := "(III)I" } : Jvm.MethodName)) ∈ lw_all := lw_g (lw_at lw_m0 212 rfl) rfl
theorem q225 : (Jvm.Cond.code ({ cls := "JumpGeneratorModel", name := "apart", desc := "(III)I" } : Jvm.MethodName) prog_3_method_21_code (4 : Nat) (Option.some Jvm.ClassFile.FieldType.int)) ∈ lw_all := lw_g (lw_at lw_m0 213 rfl) rfl
theorem q227 : (Jvm.Cond.instanceMethod ({ cls := "JumpGeneratorModel", name := "nextRound", desc := "(I)I" } : Jvm.MethodName)) ∈ lw_all := lw_g (lw_at lw_m0 215 rfl) rfl
theorem q228 : (Jvm.Cond.selects "JumpGeneratorModel" ({ cls := "JumpGeneratorModel", name := "nextRound", desc := "(I)I" } : Jvm.MethodName) ({ cls := "JumpGeneratorModel", name := "nextRound", desc := "(I)I" } : Jvm.MethodName)) ∈ lw_all := lw_g (lw_at lw_m0 216 rfl) rfl
theorem q229 : (Jvm.Cond.code ({ cls := "JumpGeneratorModel", name := "nextRound", desc := "(I)I" } : Jvm.MethodName) prog_3_method_22_code (4 : Nat) (Option.some Jvm.ClassFile.FieldType.int)) ∈ lw_all := lw_g (lw_at lw_m0 217 rfl) rfl
theorem in_X1 : ∀ w ∈ wsX10, w ∈ lw_all := lw_in wsX10 [138, 140] (by decide +kernel) (by decide +kernel)
end
section
theorem q47 : (Jvm.Cond.arrayClass Jvm.ClassFile.FieldType.int) ∈ lw_all := lw_g (lw_at lw_m0 35 rfl) rfl
set_option maxRecDepth 100000
theorem q48 : (Jvm.Cond.arrayClass Jvm.ClassFile.FieldType.short) ∈ lw_all := lw_g (lw_at lw_m0 36 rfl) rfl
theorem q12 : (Jvm.Cond.initialized "JumpGeneratorLaw") ∈ lw_all := lw_g (lw_at lw_m0 0 rfl) rfl
set_option maxRecDepth 100000
theorem q15 : (Jvm.Cond.classLink "JumpGeneratorLaw" (7 : Nat) "JumpGenerator") ∈ lw_all := lw_g (lw_at lw_m0 3 rfl) rfl
theorem q17 : (Jvm.Cond.methodLink "JumpGeneratorLaw" (9 : Nat) ({ cls := "JumpGenerator", name := "<init>", desc := "()V" } : Jvm.MethodName)) ∈ lw_all := lw_g (lw_at lw_m0 5 rfl) rfl
theorem q49 : (Jvm.Cond.methodLink "JumpGeneratorLaw" (13 : Nat) ({ cls := "JumpGenerator", name := "seed", desc := "(I)Z" } : Jvm.MethodName)) ∈ lw_all := lw_g (lw_at lw_m0 37 rfl) rfl
theorem q56 : (Jvm.Cond.methodLink "JumpGeneratorLaw" (18 : Nat) ({ cls := "JumpGenerator", name := "state", desc := "()I" } : Jvm.MethodName)) ∈ lw_all := lw_g (lw_at lw_m0 44 rfl) rfl
theorem q60 : (Jvm.Cond.methodLink "JumpGeneratorLaw" (23 : Nat) ({ cls := "JumpGenerator", name := "next", desc := "()I" } : Jvm.MethodName)) ∈ lw_all := lw_g (lw_at lw_m0 48 rfl) rfl
theorem q64 : (Jvm.Cond.methodLink "JumpGeneratorLaw" (27 : Nat) ({ cls := "JumpGenerator", name := "jump", desc := "(I)I" } : Jvm.MethodName)) ∈ lw_all := lw_g (lw_at lw_m0 52 rfl) rfl
theorem q74 : (Jvm.Cond.methodLink "JumpGeneratorLaw" (32 : Nat) ({ cls := "JumpGenerator", name := "peek", desc := "(I)I" } : Jvm.MethodName)) ∈ lw_all := lw_g (lw_at lw_m0 62 rfl) rfl
theorem q78 : (Jvm.Cond.methodLink "JumpGeneratorLaw" (36 : Nat) ({ cls := "JumpGenerator", name := "mark", desc := "(I)Z" } : Jvm.MethodName)) ∈ lw_all := lw_g (lw_at lw_m0 66 rfl) rfl
theorem q85 : (Jvm.Cond.methodLink "JumpGeneratorLaw" (40 : Nat) ({ cls := "JumpGenerator", name := "back", desc := "(I)Z" } : Jvm.MethodName)) ∈ lw_all := lw_g (lw_at lw_m0 73 rfl) rfl
theorem q89 : (Jvm.Cond.methodLink "JumpGeneratorLaw" (44 : Nat) ({ cls := "JumpGenerator", name := "distance", desc := "(I)I" } : Jvm.MethodName)) ∈ lw_all := lw_g (lw_at lw_m0 77 rfl) rfl
theorem q106 : (Jvm.Cond.methodLink "JumpGeneratorLaw" (48 : Nat) ({ cls := "JumpGenerator", name := "between", desc := "(II)I" } : Jvm.MethodName)) ∈ lw_all := lw_g (lw_at lw_m0 94 rfl) rfl
theorem q110 : (Jvm.Cond.methodLink "JumpGeneratorLaw" (53 : Nat) ({ cls := "JumpGenerator", name := "mixed", desc := "(I)I" } : Jvm.MethodName)) ∈ lw_all := lw_g (lw_at lw_m0 98 rfl) rfl
theorem q114 : (Jvm.Cond.methodLink "JumpGeneratorLaw" (57 : Nat) ({ cls := "JumpGenerator", name := "period", desc := "()I" } : Jvm.MethodName)) ∈ lw_all := lw_g (lw_at lw_m0 102 rfl) rfl
theorem q118 : (Jvm.Cond.methodLink "JumpGeneratorLaw" (61 : Nat) ({ cls := "JumpGenerator", name := "before", desc := "(II)I" } : Jvm.MethodName)) ∈ lw_all := lw_g (lw_at lw_m0 106 rfl) rfl
theorem q122 : (Jvm.Cond.methodLink "JumpGeneratorLaw" (65 : Nat) ({ cls := "JumpGenerator", name := "apart", desc := "(III)I" } : Jvm.MethodName)) ∈ lw_all := lw_g (lw_at lw_m0 110 rfl) rfl
theorem q126 : (Jvm.Cond.methodLink "JumpGeneratorLaw" (70 : Nat) ({ cls := "JumpGenerator", name := "nextRound", desc := "(I)I" } : Jvm.MethodName)) ∈ lw_all := lw_g (lw_at lw_m0 114 rfl) rfl
theorem q130 : (Jvm.Cond.classLink "JumpGeneratorLaw" (10 : Nat) "JumpGeneratorModel") ∈ lw_all := lw_g (lw_at lw_m0 118 rfl) rfl
theorem q132 : (Jvm.Cond.methodLink "JumpGeneratorLaw" (12 : Nat) ({ cls := "JumpGeneratorModel", name := "<init>", desc := "()V" } : Jvm.MethodName)) ∈ lw_all := lw_g (lw_at lw_m0 120 rfl) rfl
theorem q143 : (Jvm.Cond.methodLink "JumpGeneratorLaw" (17 : Nat) ({ cls := "JumpGeneratorModel", name := "seed", desc := "(I)Z" } : Jvm.MethodName)) ∈ lw_all := lw_g (lw_at lw_m0 131 rfl) rfl
theorem q152 : (Jvm.Cond.methodLink "JumpGeneratorLaw" (22 : Nat) ({ cls := "JumpGeneratorModel", name := "state", desc := "()I" } : Jvm.MethodName)) ∈ lw_all := lw_g (lw_at lw_m0 140 rfl) rfl
theorem q156 : (Jvm.Cond.methodLink "JumpGeneratorLaw" (26 : Nat) ({ cls := "JumpGeneratorModel", name := "next", desc := "()I" } : Jvm.MethodName)) ∈ lw_all := lw_g (lw_at lw_m0 144 rfl) rfl
theorem q164 : (Jvm.Cond.methodLink "JumpGeneratorLaw" (31 : Nat) ({ cls := "JumpGeneratorModel", name := "jump", desc := "(I)I" } : Jvm.MethodName)) ∈ lw_all := lw_g (lw_at lw_m0 152 rfl) rfl
theorem q182 : (Jvm.Cond.methodLink "JumpGeneratorLaw" (35 : Nat) ({ cls := "JumpGeneratorModel", name := "peek", desc := "(I)I" } : Jvm.MethodName)) ∈ lw_all := lw_g (lw_at lw_m0 170 rfl) rfl
theorem q186 : (Jvm.Cond.methodLink "JumpGeneratorLaw" (39 : Nat) ({ cls := "JumpGeneratorModel", name := "mark", desc := "(I)Z" } : Jvm.MethodName)) ∈ lw_all := lw_g (lw_at lw_m0 174 rfl) rfl
theorem q190 : (Jvm.Cond.methodLink "JumpGeneratorLaw" (43 : Nat) ({ cls := "JumpGeneratorModel", name := "back", desc := "(I)Z" } : Jvm.MethodName)) ∈ lw_all := lw_g (lw_at lw_m0 178 rfl) rfl
theorem q198 : (Jvm.Cond.methodLink "JumpGeneratorLaw" (47 : Nat) ({ cls := "JumpGeneratorModel", name := "distance", desc := "(I)I" } : Jvm.MethodName)) ∈ lw_all := lw_g (lw_at lw_m0 186 rfl) rfl
theorem q206 : (Jvm.Cond.methodLink "JumpGeneratorLaw" (52 : Nat) ({ cls := "JumpGeneratorModel", name := "between", desc := "(II)I" } : Jvm.MethodName)) ∈ lw_all := lw_g (lw_at lw_m0 194 rfl) rfl
theorem q210 : (Jvm.Cond.methodLink "JumpGeneratorLaw" (56 : Nat) ({ cls := "JumpGeneratorModel", name := "mixed", desc := "(I)I" } : Jvm.MethodName)) ∈ lw_all := lw_g (lw_at lw_m0 198 rfl) rfl
theorem q214 : (Jvm.Cond.methodLink "JumpGeneratorLaw" (60 : Nat) ({ cls := "JumpGeneratorModel", name := "period", desc := "()I" } : Jvm.MethodName)) ∈ lw_all := lw_g (lw_at lw_m0 202 rfl) rfl
theorem q218 : (Jvm.Cond.methodLink "JumpGeneratorLaw" (64 : Nat) ({ cls := "JumpGeneratorModel", name := "before", desc := "(II)I" } : Jvm.MethodName)) ∈ lw_all := lw_g (lw_at lw_m0 206 rfl) rfl
theorem q222 : (Jvm.Cond.methodLink "JumpGeneratorLaw" (69 : Nat) ({ cls := "JumpGeneratorModel", name := "apart", desc := "(III)I" } : Jvm.MethodName)) ∈ lw_all := lw_g (lw_at lw_m0 210 rfl) rfl
theorem q226 : (Jvm.Cond.methodLink "JumpGeneratorLaw" (73 : Nat) ({ cls := "JumpGeneratorModel", name := "nextRound", desc := "(I)I" } : Jvm.MethodName)) ∈ lw_all := lw_g (lw_at lw_m0 214 rfl) rfl
/-! the law's own entry -/
set_option maxRecDepth 100000
abbrev cL_law : ByteArray := code
theorem dL_law_0 : decode cL_law 0 = .ok (.new 7, 3) := by decide +kernel
theorem dL_law_3 : decode cL_law 3 = .ok (.dup, 1) := by decide +kernel
theorem dL_law_4 : decode cL_law 4 = .ok (.invokespecial 9, 3) := by decide +kernel
theorem dL_law_7 : decode cL_law 7 = .ok (.astore_n 1, 1) := by decide +kernel
theorem dL_law_8 : decode cL_law 8 = .ok (.new 10, 3) := by decide +kernel
theorem dL_law_11 : decode cL_law 11 = .ok (.dup, 1) := by decide +kernel
theorem dL_law_12 : decode cL_law 12 = .ok (.invokespecial 12, 3) := by decide +kernel
theorem dL_law_15 : decode cL_law 15 = .ok (.astore_n 2, 1) := by decide +kernel
theorem dL_law_16 : decode cL_law 16 = .ok (.iconst 0, 1) := by decide +kernel
theorem dL_law_17 : decode cL_law 17 = .ok (.istore_n 3, 1) := by decide +kernel
theorem dL_law_18 : decode cL_law 18 = .ok (.iload_n 3, 1) := by decide +kernel
theorem dL_law_19 : decode cL_law 19 = .ok (.aload_n 0, 1) := by decide +kernel
theorem dL_law_20 : decode cL_law 20 = .ok (.arraylength, 1) := by decide +kernel
theorem dL_law_21 : decode cL_law 21 = .ok (.iconst 4, 1) := by decide +kernel
theorem dL_law_22 : decode cL_law 22 = .ok (.isub, 1) := by decide +kernel
theorem dL_law_23 : decode cL_law 23 = .ok (.if_icmp .gt 419, 3) := by decide +kernel
theorem dL_law_26 : decode cL_law 26 = .ok (.aload_n 0, 1) := by decide +kernel
theorem dL_law_27 : decode cL_law 27 = .ok (.iload_n 3, 1) := by decide +kernel
theorem dL_law_28 : decode cL_law 28 = .ok (.iaload, 1) := by decide +kernel
theorem dL_law_29 : decode cL_law 29 = .ok (.bipush 15, 2) := by decide +kernel
theorem dL_law_31 : decode cL_law 31 = .ok (.iand, 1) := by decide +kernel
theorem dL_law_32 : decode cL_law 32 = .ok (.tableswitch 404 0 13 #[72, 95, 108, 121, 144, 167, 190, 213, 236, 269, 292, 305, 338, 381], 72) := by decide +kernel
theorem dL_law_104 : decode cL_law 104 = .ok (.aload_n 1, 1) := by decide +kernel
theorem dL_law_105 : decode cL_law 105 = .ok (.aload_n 0, 1) := by decide +kernel
theorem dL_law_106 : decode cL_law 106 = .ok (.iload_n 3, 1) := by decide +kernel
theorem dL_law_107 : decode cL_law 107 = .ok (.iconst 1, 1) := by decide +kernel
theorem dL_law_108 : decode cL_law 108 = .ok (.iadd, 1) := by decide +kernel
theorem dL_law_109 : decode cL_law 109 = .ok (.iaload, 1) := by decide +kernel
theorem dL_law_110 : decode cL_law 110 = .ok (.invokevirtual 13, 3) := by decide +kernel
theorem dL_law_113 : decode cL_law 113 = .ok (.aload_n 2, 1) := by decide +kernel
theorem dL_law_114 : decode cL_law 114 = .ok (.aload_n 0, 1) := by decide +kernel
theorem dL_law_115 : decode cL_law 115 = .ok (.iload_n 3, 1) := by decide +kernel
theorem dL_law_116 : decode cL_law 116 = .ok (.iconst 1, 1) := by decide +kernel
theorem dL_law_117 : decode cL_law 117 = .ok (.iadd, 1) := by decide +kernel
theorem dL_law_118 : decode cL_law 118 = .ok (.iaload, 1) := by decide +kernel
theorem dL_law_119 : decode cL_law 119 = .ok (.invokevirtual 17, 3) := by decide +kernel
theorem dL_law_122 : decode cL_law 122 = .ok (.if_icmp .eq 314, 3) := by decide +kernel
theorem dL_law_125 : decode cL_law 125 = .ok (.iconst 0, 1) := by decide +kernel
theorem dL_law_126 : decode cL_law 126 = .ok (.ireturn, 1) := by decide +kernel
theorem dL_law_127 : decode cL_law 127 = .ok (.aload_n 1, 1) := by decide +kernel
theorem dL_law_128 : decode cL_law 128 = .ok (.invokevirtual 18, 3) := by decide +kernel
theorem dL_law_131 : decode cL_law 131 = .ok (.aload_n 2, 1) := by decide +kernel
theorem dL_law_132 : decode cL_law 132 = .ok (.invokevirtual 22, 3) := by decide +kernel
theorem dL_law_135 : decode cL_law 135 = .ok (.if_icmp .eq 301, 3) := by decide +kernel
theorem dL_law_138 : decode cL_law 138 = .ok (.iconst 0, 1) := by decide +kernel
theorem dL_law_139 : decode cL_law 139 = .ok (.ireturn, 1) := by decide +kernel
theorem dL_law_140 : decode cL_law 140 = .ok (.aload_n 1, 1) := by decide +kernel
theorem dL_law_141 : decode cL_law 141 = .ok (.invokevirtual 23, 3) := by decide +kernel
theorem dL_law_144 : decode cL_law 144 = .ok (.aload_n 2, 1) := by decide +kernel
theorem dL_law_145 : decode cL_law 145 = .ok (.invokevirtual 26, 3) := by decide +kernel
theorem dL_law_148 : decode cL_law 148 = .ok (.if_icmp .eq 288, 3) := by decide +kernel
theorem dL_law_151 : decode cL_law 151 = .ok (.iconst 0, 1) := by decide +kernel
theorem dL_law_152 : decode cL_law 152 = .ok (.ireturn, 1) := by decide +kernel
theorem dL_law_153 : decode cL_law 153 = .ok (.aload_n 1, 1) := by decide +kernel
theorem dL_law_154 : decode cL_law 154 = .ok (.aload_n 0, 1) := by decide +kernel
theorem dL_law_155 : decode cL_law 155 = .ok (.iload_n 3, 1) := by decide +kernel
theorem dL_law_156 : decode cL_law 156 = .ok (.iconst 1, 1) := by decide +kernel
theorem dL_law_157 : decode cL_law 157 = .ok (.iadd, 1) := by decide +kernel
theorem dL_law_158 : decode cL_law 158 = .ok (.iaload, 1) := by decide +kernel
theorem dL_law_159 : decode cL_law 159 = .ok (.invokevirtual 27, 3) := by decide +kernel
theorem dL_law_162 : decode cL_law 162 = .ok (.aload_n 2, 1) := by decide +kernel
theorem dL_law_163 : decode cL_law 163 = .ok (.aload_n 0, 1) := by decide +kernel
theorem dL_law_164 : decode cL_law 164 = .ok (.iload_n 3, 1) := by decide +kernel
theorem dL_law_165 : decode cL_law 165 = .ok (.iconst 1, 1) := by decide +kernel
theorem dL_law_166 : decode cL_law 166 = .ok (.iadd, 1) := by decide +kernel
theorem dL_law_167 : decode cL_law 167 = .ok (.iaload, 1) := by decide +kernel
theorem dL_law_168 : decode cL_law 168 = .ok (.invokevirtual 31, 3) := by decide +kernel
theorem dL_law_171 : decode cL_law 171 = .ok (.if_icmp .eq 265, 3) := by decide +kernel
theorem dL_law_174 : decode cL_law 174 = .ok (.iconst 0, 1) := by decide +kernel
theorem dL_law_175 : decode cL_law 175 = .ok (.ireturn, 1) := by decide +kernel
theorem dL_law_176 : decode cL_law 176 = .ok (.aload_n 1, 1) := by decide +kernel
theorem dL_law_177 : decode cL_law 177 = .ok (.aload_n 0, 1) := by decide +kernel
theorem dL_law_178 : decode cL_law 178 = .ok (.iload_n 3, 1) := by decide +kernel
theorem dL_law_179 : decode cL_law 179 = .ok (.iconst 1, 1) := by decide +kernel
theorem dL_law_180 : decode cL_law 180 = .ok (.iadd, 1) := by decide +kernel
theorem dL_law_181 : decode cL_law 181 = .ok (.iaload, 1) := by decide +kernel
theorem dL_law_182 : decode cL_law 182 = .ok (.invokevirtual 32, 3) := by decide +kernel
theorem dL_law_185 : decode cL_law 185 = .ok (.aload_n 2, 1) := by decide +kernel
theorem dL_law_186 : decode cL_law 186 = .ok (.aload_n 0, 1) := by decide +kernel
theorem dL_law_187 : decode cL_law 187 = .ok (.iload_n 3, 1) := by decide +kernel
theorem dL_law_188 : decode cL_law 188 = .ok (.iconst 1, 1) := by decide +kernel
theorem dL_law_189 : decode cL_law 189 = .ok (.iadd, 1) := by decide +kernel
theorem dL_law_190 : decode cL_law 190 = .ok (.iaload, 1) := by decide +kernel
theorem dL_law_191 : decode cL_law 191 = .ok (.invokevirtual 35, 3) := by decide +kernel
theorem dL_law_194 : decode cL_law 194 = .ok (.if_icmp .eq 242, 3) := by decide +kernel
theorem dL_law_197 : decode cL_law 197 = .ok (.iconst 0, 1) := by decide +kernel
theorem dL_law_198 : decode cL_law 198 = .ok (.ireturn, 1) := by decide +kernel
theorem dL_law_199 : decode cL_law 199 = .ok (.aload_n 1, 1) := by decide +kernel
theorem dL_law_200 : decode cL_law 200 = .ok (.aload_n 0, 1) := by decide +kernel
theorem dL_law_201 : decode cL_law 201 = .ok (.iload_n 3, 1) := by decide +kernel
theorem dL_law_202 : decode cL_law 202 = .ok (.iconst 1, 1) := by decide +kernel
theorem dL_law_203 : decode cL_law 203 = .ok (.iadd, 1) := by decide +kernel
theorem dL_law_204 : decode cL_law 204 = .ok (.iaload, 1) := by decide +kernel
theorem dL_law_205 : decode cL_law 205 = .ok (.invokevirtual 36, 3) := by decide +kernel
theorem dL_law_208 : decode cL_law 208 = .ok (.aload_n 2, 1) := by decide +kernel
theorem dL_law_209 : decode cL_law 209 = .ok (.aload_n 0, 1) := by decide +kernel
theorem dL_law_210 : decode cL_law 210 = .ok (.iload_n 3, 1) := by decide +kernel
theorem dL_law_211 : decode cL_law 211 = .ok (.iconst 1, 1) := by decide +kernel
theorem dL_law_212 : decode cL_law 212 = .ok (.iadd, 1) := by decide +kernel
theorem dL_law_213 : decode cL_law 213 = .ok (.iaload, 1) := by decide +kernel
theorem dL_law_214 : decode cL_law 214 = .ok (.invokevirtual 39, 3) := by decide +kernel
theorem dL_law_217 : decode cL_law 217 = .ok (.if_icmp .eq 219, 3) := by decide +kernel
theorem dL_law_220 : decode cL_law 220 = .ok (.iconst 0, 1) := by decide +kernel
theorem dL_law_221 : decode cL_law 221 = .ok (.ireturn, 1) := by decide +kernel
theorem dL_law_222 : decode cL_law 222 = .ok (.aload_n 1, 1) := by decide +kernel
theorem dL_law_223 : decode cL_law 223 = .ok (.aload_n 0, 1) := by decide +kernel
theorem dL_law_224 : decode cL_law 224 = .ok (.iload_n 3, 1) := by decide +kernel
theorem dL_law_225 : decode cL_law 225 = .ok (.iconst 1, 1) := by decide +kernel
theorem dL_law_226 : decode cL_law 226 = .ok (.iadd, 1) := by decide +kernel
theorem dL_law_227 : decode cL_law 227 = .ok (.iaload, 1) := by decide +kernel
theorem dL_law_228 : decode cL_law 228 = .ok (.invokevirtual 40, 3) := by decide +kernel
theorem dL_law_231 : decode cL_law 231 = .ok (.aload_n 2, 1) := by decide +kernel
theorem dL_law_232 : decode cL_law 232 = .ok (.aload_n 0, 1) := by decide +kernel
theorem dL_law_233 : decode cL_law 233 = .ok (.iload_n 3, 1) := by decide +kernel
theorem dL_law_234 : decode cL_law 234 = .ok (.iconst 1, 1) := by decide +kernel
theorem dL_law_235 : decode cL_law 235 = .ok (.iadd, 1) := by decide +kernel
theorem dL_law_236 : decode cL_law 236 = .ok (.iaload, 1) := by decide +kernel
theorem dL_law_237 : decode cL_law 237 = .ok (.invokevirtual 43, 3) := by decide +kernel
theorem dL_law_240 : decode cL_law 240 = .ok (.if_icmp .eq 196, 3) := by decide +kernel
theorem dL_law_243 : decode cL_law 243 = .ok (.iconst 0, 1) := by decide +kernel
theorem dL_law_244 : decode cL_law 244 = .ok (.ireturn, 1) := by decide +kernel
theorem dL_law_245 : decode cL_law 245 = .ok (.aload_n 1, 1) := by decide +kernel
theorem dL_law_246 : decode cL_law 246 = .ok (.aload_n 0, 1) := by decide +kernel
theorem dL_law_247 : decode cL_law 247 = .ok (.iload_n 3, 1) := by decide +kernel
theorem dL_law_248 : decode cL_law 248 = .ok (.iconst 1, 1) := by decide +kernel
theorem dL_law_249 : decode cL_law 249 = .ok (.iadd, 1) := by decide +kernel
theorem dL_law_250 : decode cL_law 250 = .ok (.iaload, 1) := by decide +kernel
theorem dL_law_251 : decode cL_law 251 = .ok (.invokevirtual 44, 3) := by decide +kernel
theorem dL_law_254 : decode cL_law 254 = .ok (.aload_n 2, 1) := by decide +kernel
theorem dL_law_255 : decode cL_law 255 = .ok (.aload_n 0, 1) := by decide +kernel
theorem dL_law_256 : decode cL_law 256 = .ok (.iload_n 3, 1) := by decide +kernel
theorem dL_law_257 : decode cL_law 257 = .ok (.iconst 1, 1) := by decide +kernel
theorem dL_law_258 : decode cL_law 258 = .ok (.iadd, 1) := by decide +kernel
theorem dL_law_259 : decode cL_law 259 = .ok (.iaload, 1) := by decide +kernel
theorem dL_law_260 : decode cL_law 260 = .ok (.invokevirtual 47, 3) := by decide +kernel
theorem dL_law_263 : decode cL_law 263 = .ok (.if_icmp .eq 173, 3) := by decide +kernel
theorem dL_law_266 : decode cL_law 266 = .ok (.iconst 0, 1) := by decide +kernel
theorem dL_law_267 : decode cL_law 267 = .ok (.ireturn, 1) := by decide +kernel
theorem dL_law_268 : decode cL_law 268 = .ok (.aload_n 1, 1) := by decide +kernel
theorem dL_law_269 : decode cL_law 269 = .ok (.aload_n 0, 1) := by decide +kernel
theorem dL_law_270 : decode cL_law 270 = .ok (.iload_n 3, 1) := by decide +kernel
theorem dL_law_271 : decode cL_law 271 = .ok (.iconst 1, 1) := by decide +kernel
theorem dL_law_272 : decode cL_law 272 = .ok (.iadd, 1) := by decide +kernel
theorem dL_law_273 : decode cL_law 273 = .ok (.iaload, 1) := by decide +kernel
theorem dL_law_274 : decode cL_law 274 = .ok (.aload_n 0, 1) := by decide +kernel
theorem dL_law_275 : decode cL_law 275 = .ok (.iload_n 3, 1) := by decide +kernel
theorem dL_law_276 : decode cL_law 276 = .ok (.iconst 2, 1) := by decide +kernel
theorem dL_law_277 : decode cL_law 277 = .ok (.iadd, 1) := by decide +kernel
theorem dL_law_278 : decode cL_law 278 = .ok (.iaload, 1) := by decide +kernel
theorem dL_law_279 : decode cL_law 279 = .ok (.invokevirtual 48, 3) := by decide +kernel
theorem dL_law_282 : decode cL_law 282 = .ok (.aload_n 2, 1) := by decide +kernel
theorem dL_law_283 : decode cL_law 283 = .ok (.aload_n 0, 1) := by decide +kernel
theorem dL_law_284 : decode cL_law 284 = .ok (.iload_n 3, 1) := by decide +kernel
theorem dL_law_285 : decode cL_law 285 = .ok (.iconst 1, 1) := by decide +kernel
theorem dL_law_286 : decode cL_law 286 = .ok (.iadd, 1) := by decide +kernel
theorem dL_law_287 : decode cL_law 287 = .ok (.iaload, 1) := by decide +kernel
theorem dL_law_288 : decode cL_law 288 = .ok (.aload_n 0, 1) := by decide +kernel
theorem dL_law_289 : decode cL_law 289 = .ok (.iload_n 3, 1) := by decide +kernel
theorem dL_law_290 : decode cL_law 290 = .ok (.iconst 2, 1) := by decide +kernel
theorem dL_law_291 : decode cL_law 291 = .ok (.iadd, 1) := by decide +kernel
theorem dL_law_292 : decode cL_law 292 = .ok (.iaload, 1) := by decide +kernel
theorem dL_law_293 : decode cL_law 293 = .ok (.invokevirtual 52, 3) := by decide +kernel
theorem dL_law_296 : decode cL_law 296 = .ok (.if_icmp .eq 140, 3) := by decide +kernel
theorem dL_law_299 : decode cL_law 299 = .ok (.iconst 0, 1) := by decide +kernel
theorem dL_law_300 : decode cL_law 300 = .ok (.ireturn, 1) := by decide +kernel
theorem dL_law_301 : decode cL_law 301 = .ok (.aload_n 1, 1) := by decide +kernel
theorem dL_law_302 : decode cL_law 302 = .ok (.aload_n 0, 1) := by decide +kernel
theorem dL_law_303 : decode cL_law 303 = .ok (.iload_n 3, 1) := by decide +kernel
theorem dL_law_304 : decode cL_law 304 = .ok (.iconst 1, 1) := by decide +kernel
theorem dL_law_305 : decode cL_law 305 = .ok (.iadd, 1) := by decide +kernel
theorem dL_law_306 : decode cL_law 306 = .ok (.iaload, 1) := by decide +kernel
theorem dL_law_307 : decode cL_law 307 = .ok (.invokevirtual 53, 3) := by decide +kernel
theorem dL_law_310 : decode cL_law 310 = .ok (.aload_n 2, 1) := by decide +kernel
theorem dL_law_311 : decode cL_law 311 = .ok (.aload_n 0, 1) := by decide +kernel
theorem dL_law_312 : decode cL_law 312 = .ok (.iload_n 3, 1) := by decide +kernel
theorem dL_law_313 : decode cL_law 313 = .ok (.iconst 1, 1) := by decide +kernel
theorem dL_law_314 : decode cL_law 314 = .ok (.iadd, 1) := by decide +kernel
theorem dL_law_315 : decode cL_law 315 = .ok (.iaload, 1) := by decide +kernel
theorem dL_law_316 : decode cL_law 316 = .ok (.invokevirtual 56, 3) := by decide +kernel
theorem dL_law_319 : decode cL_law 319 = .ok (.if_icmp .eq 117, 3) := by decide +kernel
theorem dL_law_322 : decode cL_law 322 = .ok (.iconst 0, 1) := by decide +kernel
theorem dL_law_323 : decode cL_law 323 = .ok (.ireturn, 1) := by decide +kernel
theorem dL_law_324 : decode cL_law 324 = .ok (.aload_n 1, 1) := by decide +kernel
theorem dL_law_325 : decode cL_law 325 = .ok (.invokevirtual 57, 3) := by decide +kernel
theorem dL_law_328 : decode cL_law 328 = .ok (.aload_n 2, 1) := by decide +kernel
theorem dL_law_329 : decode cL_law 329 = .ok (.invokevirtual 60, 3) := by decide +kernel
theorem dL_law_332 : decode cL_law 332 = .ok (.if_icmp .eq 104, 3) := by decide +kernel
theorem dL_law_335 : decode cL_law 335 = .ok (.iconst 0, 1) := by decide +kernel
theorem dL_law_336 : decode cL_law 336 = .ok (.ireturn, 1) := by decide +kernel
theorem dL_law_337 : decode cL_law 337 = .ok (.aload_n 1, 1) := by decide +kernel
theorem dL_law_338 : decode cL_law 338 = .ok (.aload_n 0, 1) := by decide +kernel
theorem dL_law_339 : decode cL_law 339 = .ok (.iload_n 3, 1) := by decide +kernel
theorem dL_law_340 : decode cL_law 340 = .ok (.iconst 1, 1) := by decide +kernel
theorem dL_law_341 : decode cL_law 341 = .ok (.iadd, 1) := by decide +kernel
theorem dL_law_342 : decode cL_law 342 = .ok (.iaload, 1) := by decide +kernel
theorem dL_law_343 : decode cL_law 343 = .ok (.aload_n 0, 1) := by decide +kernel
theorem dL_law_344 : decode cL_law 344 = .ok (.iload_n 3, 1) := by decide +kernel
theorem dL_law_345 : decode cL_law 345 = .ok (.iconst 2, 1) := by decide +kernel
theorem dL_law_346 : decode cL_law 346 = .ok (.iadd, 1) := by decide +kernel
theorem dL_law_347 : decode cL_law 347 = .ok (.iaload, 1) := by decide +kernel
theorem dL_law_348 : decode cL_law 348 = .ok (.invokevirtual 61, 3) := by decide +kernel
theorem dL_law_351 : decode cL_law 351 = .ok (.aload_n 2, 1) := by decide +kernel
theorem dL_law_352 : decode cL_law 352 = .ok (.aload_n 0, 1) := by decide +kernel
theorem dL_law_353 : decode cL_law 353 = .ok (.iload_n 3, 1) := by decide +kernel
theorem dL_law_354 : decode cL_law 354 = .ok (.iconst 1, 1) := by decide +kernel
theorem dL_law_355 : decode cL_law 355 = .ok (.iadd, 1) := by decide +kernel
theorem dL_law_356 : decode cL_law 356 = .ok (.iaload, 1) := by decide +kernel
theorem dL_law_357 : decode cL_law 357 = .ok (.aload_n 0, 1) := by decide +kernel
theorem dL_law_358 : decode cL_law 358 = .ok (.iload_n 3, 1) := by decide +kernel
theorem dL_law_359 : decode cL_law 359 = .ok (.iconst 2, 1) := by decide +kernel
theorem dL_law_360 : decode cL_law 360 = .ok (.iadd, 1) := by decide +kernel
theorem dL_law_361 : decode cL_law 361 = .ok (.iaload, 1) := by decide +kernel
theorem dL_law_362 : decode cL_law 362 = .ok (.invokevirtual 64, 3) := by decide +kernel
theorem dL_law_365 : decode cL_law 365 = .ok (.if_icmp .eq 71, 3) := by decide +kernel
theorem dL_law_368 : decode cL_law 368 = .ok (.iconst 0, 1) := by decide +kernel
theorem dL_law_369 : decode cL_law 369 = .ok (.ireturn, 1) := by decide +kernel
theorem dL_law_370 : decode cL_law 370 = .ok (.aload_n 1, 1) := by decide +kernel
theorem dL_law_371 : decode cL_law 371 = .ok (.aload_n 0, 1) := by decide +kernel
theorem dL_law_372 : decode cL_law 372 = .ok (.iload_n 3, 1) := by decide +kernel
theorem dL_law_373 : decode cL_law 373 = .ok (.iconst 1, 1) := by decide +kernel
theorem dL_law_374 : decode cL_law 374 = .ok (.iadd, 1) := by decide +kernel
theorem dL_law_375 : decode cL_law 375 = .ok (.iaload, 1) := by decide +kernel
theorem dL_law_376 : decode cL_law 376 = .ok (.aload_n 0, 1) := by decide +kernel
theorem dL_law_377 : decode cL_law 377 = .ok (.iload_n 3, 1) := by decide +kernel
theorem dL_law_378 : decode cL_law 378 = .ok (.iconst 2, 1) := by decide +kernel
theorem dL_law_379 : decode cL_law 379 = .ok (.iadd, 1) := by decide +kernel
theorem dL_law_380 : decode cL_law 380 = .ok (.iaload, 1) := by decide +kernel
theorem dL_law_381 : decode cL_law 381 = .ok (.aload_n 0, 1) := by decide +kernel
theorem dL_law_382 : decode cL_law 382 = .ok (.iload_n 3, 1) := by decide +kernel
theorem dL_law_383 : decode cL_law 383 = .ok (.iconst 3, 1) := by decide +kernel
theorem dL_law_384 : decode cL_law 384 = .ok (.iadd, 1) := by decide +kernel
theorem dL_law_385 : decode cL_law 385 = .ok (.iaload, 1) := by decide +kernel
theorem dL_law_386 : decode cL_law 386 = .ok (.invokevirtual 65, 3) := by decide +kernel
theorem dL_law_389 : decode cL_law 389 = .ok (.aload_n 2, 1) := by decide +kernel
theorem dL_law_390 : decode cL_law 390 = .ok (.aload_n 0, 1) := by decide +kernel
theorem dL_law_391 : decode cL_law 391 = .ok (.iload_n 3, 1) := by decide +kernel
theorem dL_law_392 : decode cL_law 392 = .ok (.iconst 1, 1) := by decide +kernel
theorem dL_law_393 : decode cL_law 393 = .ok (.iadd, 1) := by decide +kernel
theorem dL_law_394 : decode cL_law 394 = .ok (.iaload, 1) := by decide +kernel
theorem dL_law_395 : decode cL_law 395 = .ok (.aload_n 0, 1) := by decide +kernel
theorem dL_law_396 : decode cL_law 396 = .ok (.iload_n 3, 1) := by decide +kernel
theorem dL_law_397 : decode cL_law 397 = .ok (.iconst 2, 1) := by decide +kernel
theorem dL_law_398 : decode cL_law 398 = .ok (.iadd, 1) := by decide +kernel
theorem dL_law_399 : decode cL_law 399 = .ok (.iaload, 1) := by decide +kernel
theorem dL_law_400 : decode cL_law 400 = .ok (.aload_n 0, 1) := by decide +kernel
theorem dL_law_401 : decode cL_law 401 = .ok (.iload_n 3, 1) := by decide +kernel
theorem dL_law_402 : decode cL_law 402 = .ok (.iconst 3, 1) := by decide +kernel
theorem dL_law_403 : decode cL_law 403 = .ok (.iadd, 1) := by decide +kernel
theorem dL_law_404 : decode cL_law 404 = .ok (.iaload, 1) := by decide +kernel
theorem dL_law_405 : decode cL_law 405 = .ok (.invokevirtual 69, 3) := by decide +kernel
theorem dL_law_408 : decode cL_law 408 = .ok (.if_icmp .eq 28, 3) := by decide +kernel
theorem dL_law_411 : decode cL_law 411 = .ok (.iconst 0, 1) := by decide +kernel
theorem dL_law_412 : decode cL_law 412 = .ok (.ireturn, 1) := by decide +kernel
theorem dL_law_413 : decode cL_law 413 = .ok (.aload_n 1, 1) := by decide +kernel
theorem dL_law_414 : decode cL_law 414 = .ok (.aload_n 0, 1) := by decide +kernel
theorem dL_law_415 : decode cL_law 415 = .ok (.iload_n 3, 1) := by decide +kernel
theorem dL_law_416 : decode cL_law 416 = .ok (.iconst 1, 1) := by decide +kernel
theorem dL_law_417 : decode cL_law 417 = .ok (.iadd, 1) := by decide +kernel
theorem dL_law_418 : decode cL_law 418 = .ok (.iaload, 1) := by decide +kernel
theorem dL_law_419 : decode cL_law 419 = .ok (.invokevirtual 70, 3) := by decide +kernel
theorem dL_law_422 : decode cL_law 422 = .ok (.aload_n 2, 1) := by decide +kernel
theorem dL_law_423 : decode cL_law 423 = .ok (.aload_n 0, 1) := by decide +kernel
theorem dL_law_424 : decode cL_law 424 = .ok (.iload_n 3, 1) := by decide +kernel
theorem dL_law_425 : decode cL_law 425 = .ok (.iconst 1, 1) := by decide +kernel
theorem dL_law_426 : decode cL_law 426 = .ok (.iadd, 1) := by decide +kernel
theorem dL_law_427 : decode cL_law 427 = .ok (.iaload, 1) := by decide +kernel
theorem dL_law_428 : decode cL_law 428 = .ok (.invokevirtual 73, 3) := by decide +kernel
theorem dL_law_431 : decode cL_law 431 = .ok (.if_icmp .eq 5, 3) := by decide +kernel
theorem dL_law_434 : decode cL_law 434 = .ok (.iconst 0, 1) := by decide +kernel
theorem dL_law_435 : decode cL_law 435 = .ok (.ireturn, 1) := by decide +kernel
theorem dL_law_436 : decode cL_law 436 = .ok (.iinc 3 4, 3) := by decide +kernel
theorem dL_law_439 : decode cL_law 439 = .ok (.goto (-421), 3) := by decide +kernel
theorem dL_law_442 : decode cL_law 442 = .ok (.iconst 1, 1) := by decide +kernel
theorem dL_law_443 : decode cL_law 443 = .ok (.ireturn, 1) := by decide +kernel
end
section
/-! the generator's mathematics, over Nat: no program in sight -/
/-! ===== drawers (rows of the kit's COUNTS.to-paste) ===== -/
theorem fb_holes : ∀ (m n : Nat) (f : Nat → Nat), (∀ i, i < n → f i < m) → (∀ i j, i < j → j < n → f i ≠ f j) → n ≤ m := by
  intro m
  induction m with
  | zero =>
    intro n f h1 _
    rcases Nat.eq_zero_or_pos n with h | h
    · omega
    · exact absurd (h1 0 h) (Nat.not_lt_zero _)
  | succ m ih =>
    intro n f h1 h2
    by_cases hx : ∃ i, i < n ∧ f i = m
    · obtain ⟨a, ha, hfa⟩ := hx
      have hg := ih (n - 1) (fun i => if i < a then f i else f (i + 1)) (by
        intro i hi
        by_cases q : i < a
        · simp only [if_pos q]
          have b1 := h1 i (by omega)
          have b2 := h2 i a q ha
          omega
        · simp only [if_neg q]
          have b1 := h1 (i + 1) (by omega)
          have b2 := h2 a (i + 1) (by omega) (by omega)
          omega) (by
        intro i j hij hj
        by_cases q : i < a
        · by_cases r : j < a
          · simp only [if_pos q, if_pos r]
            exact h2 i j hij (by omega)
          · simp only [if_pos q, if_neg r]
            exact h2 i (j + 1) (by omega) (by omega)
        · have r : ¬ j < a := by omega
          simp only [if_neg q, if_neg r]
          exact h2 (i + 1) (j + 1) (by omega) (by omega))
      omega
    · have hg := ih n f (fun i hi => by
        have b1 := h1 i hi
        have b2 : f i ≠ m := fun e => hx ⟨i, hi, e⟩
        omega) h2
      omega
/-- two of them in one place -/
theorem fb_twice {m n : Nat} {f : Nat → Nat} (h : ∀ i, i < n → f i < m) (hm : m < n) : ∃ i j, i < j ∧ j < n ∧ f i = f j := by
  refine Classical.byContradiction fun hx => ?_
  have := fb_holes m n f h (fun i j hij hj e => hx ⟨i, j, hij, hj, e⟩)
  omega
/-- as many as places, none twice: each place is taken -/
theorem fb_onto {n : Nat} {f : Nat → Nat} (h : ∀ i, i < n → f i < n) (h2 : ∀ i j, i < j → j < n → f i ≠ f j) {y : Nat} (hy : y < n) : ∃ i, i < n ∧ f i = y := by
  refine Classical.byContradiction fun hx => ?_
  have hne : ∀ i, i < n → f i ≠ y := fun i hi e => hx ⟨i, hi, e⟩
  have := fb_holes (n - 1) n (fun i => if f i < y then f i else f i - 1) (by
    intro i hi
    have b1 := h i hi
    have b2 := hne i hi
    by_cases q : f i < y
    · simp only [if_pos q]; omega
    · simp only [if_neg q]; omega) (by
    intro i j hij hj
    have b1 := hne i (by omega)
    have b2 := hne j hj
    have b3 := h2 i j hij hj
    by_cases q : f i < y
    · by_cases r : f j < y
      · simp only [if_pos q, if_pos r]; exact b3
      · simp only [if_pos q, if_neg r]; omega
    · by_cases r : f j < y
      · simp only [if_neg q, if_pos r]; omega
      · simp only [if_neg q, if_neg r]; omega)
  omega
/-! ===== a step and its undoing ===== -/
def jg_A (x : Nat) : Nat := (x ^^^ (x <<< 7)) % 2 ^ 16
def jg_B (x : Nat) : Nat := x ^^^ (x >>> 9)
def jg_C (x : Nat) : Nat := (x ^^^ (x <<< 8)) % 2 ^ 16
def jg_D (x : Nat) : Nat := ((x ^^^ (x <<< 7)) ^^^ (x <<< 14)) % 2 ^ 16
def jg_T (x : Nat) : Nat := jg_C (jg_B (jg_A x))
def jg_U (x : Nat) : Nat := jg_D (jg_B (jg_C x))
theorem jg_A_xor (a b : Nat) : jg_A (a ^^^ b) = jg_A a ^^^ jg_A b := by
  unfold jg_A
  rw [Nat.shiftLeft_xor_distrib, ← Nat.xor_mod_two_pow]
  congr 1
  ac_rfl
theorem jg_B_xor (a b : Nat) : jg_B (a ^^^ b) = jg_B a ^^^ jg_B b := by
  unfold jg_B
  rw [Nat.shiftRight_xor_distrib]
  ac_rfl
theorem jg_C_xor (a b : Nat) : jg_C (a ^^^ b) = jg_C a ^^^ jg_C b := by
  unfold jg_C
  rw [Nat.shiftLeft_xor_distrib, ← Nat.xor_mod_two_pow]
  congr 1
  ac_rfl
theorem jg_D_xor (a b : Nat) : jg_D (a ^^^ b) = jg_D a ^^^ jg_D b := by
  unfold jg_D
  rw [Nat.shiftLeft_xor_distrib, Nat.shiftLeft_xor_distrib, ← Nat.xor_mod_two_pow]
  congr 1
  ac_rfl
theorem jg_T_xor (a b : Nat) : jg_T (a ^^^ b) = jg_T a ^^^ jg_T b := by
  unfold jg_T
  rw [jg_A_xor, jg_B_xor, jg_C_xor]
theorem jg_U_xor (a b : Nat) : jg_U (a ^^^ b) = jg_U a ^^^ jg_U b := by
  unfold jg_U
  rw [jg_C_xor, jg_B_xor, jg_D_xor]
theorem jg_T_lt (x : Nat) : jg_T x < 65536 := Nat.mod_lt _ (by decide)
theorem jg_U_lt (x : Nat) : jg_U x < 65536 := Nat.mod_lt _ (by decide)
theorem jg_T_0 : jg_T 0 = 0 := by decide +kernel
theorem jg_U_0 : jg_U 0 = 0 := by decide +kernel
/-! ===== n steps ===== -/
def jg_i : Nat → Nat → Nat
  | 0, x => x
  | n + 1, x => jg_T (jg_i n x)
theorem jg_i_z (x : Nat) : jg_i 0 x = x := rfl
theorem jg_i_s (n x : Nat) : jg_i (n + 1) x = jg_T (jg_i n x) := rfl
theorem jg_i_add (a b x : Nat) : jg_i (a + b) x = jg_i a (jg_i b x) := by
  induction a with
  | zero => rw [Nat.zero_add, jg_i_z]
  | succ a ih => rw [show a + 1 + b = (a + b) + 1 by omega, jg_i_s, jg_i_s, ih]
theorem jg_i_xor (n a b : Nat) : jg_i n (a ^^^ b) = jg_i n a ^^^ jg_i n b := by
  induction n with
  | zero => rfl
  | succ n ih => rw [jg_i_s, jg_i_s, jg_i_s, ih, jg_T_xor]
theorem jg_i_0 (n : Nat) : jg_i n 0 = 0 := by
  induction n with
  | zero => rfl
  | succ n ih => rw [jg_i_s, ih, jg_T_0]
theorem jg_i_lt {n x : Nat} (h : x < 65536) : jg_i n x < 65536 := by
  cases n with
  | zero => exact h
  | succ n => exact jg_T_lt _
/-! ===== exclusive sums of what the bits become ===== -/
def jg_ap (g : Nat → Nat) (x : Nat) : Nat → Nat
  | 0 => 0
  | i + 1 => if x.testBit i = true then jg_ap g x i ^^^ g i else jg_ap g x i
theorem jg_ap_z (g : Nat → Nat) (x : Nat) : jg_ap g x 0 = 0 := rfl
theorem jg_ap_s (g : Nat → Nat) (x i : Nat) : jg_ap g x (i + 1) = if x.testBit i = true then jg_ap g x i ^^^ g i else jg_ap g x i := rfl
theorem jg_ap_cong {g h : Nat → Nat} {x : Nat} : ∀ {n : Nat}, (∀ i, i < n → g i = h i) → jg_ap g x n = jg_ap h x n := by
  intro n
  induction n with
  | zero => intro _; rfl
  | succ n ih =>
    intro hg
    rw [jg_ap_s, jg_ap_s, ih (fun i hi => hg i (by omega)), hg n (by omega)]
theorem jg_low (x i : Nat) : x % 2 ^ (i + 1) = if x.testBit i = true then (x % 2 ^ i) ^^^ 2 ^ i else x % 2 ^ i := by
  apply Nat.eq_of_testBit_eq
  intro j
  by_cases hb : x.testBit i = true
  · rw [if_pos hb, Nat.testBit_xor, Nat.testBit_mod_two_pow, Nat.testBit_mod_two_pow, Nat.testBit_two_pow]
    rcases Nat.lt_trichotomy j i with h | h | h
    · simp [h, show j < i + 1 by omega, show i ≠ j by omega]
    · subst h
      simp [hb]
    · simp [show ¬ j < i by omega, show ¬ j < i + 1 by omega, show i ≠ j by omega]
  · rw [if_neg hb, Nat.testBit_mod_two_pow, Nat.testBit_mod_two_pow]
    rcases Nat.lt_trichotomy j i with h | h | h
    · simp [h, show j < i + 1 by omega]
    · subst h
      simp [hb]
    · simp [show ¬ j < i by omega, show ¬ j < i + 1 by omega]
/-- a map that turns exclusive sums into exclusive sums is known by what the bits become -/
theorem jg_lin (f : Nat → Nat) (h0 : f 0 = 0) (hx : ∀ a b, f (a ^^^ b) = f a ^^^ f b) (x : Nat) : ∀ k, jg_ap (fun i => f (2 ^ i)) x k = f (x % 2 ^ k) := by
  intro k
  induction k with
  | zero => rw [jg_ap_z, Nat.pow_zero, Nat.mod_one, h0]
  | succ k ih =>
    rw [jg_ap_s, jg_low, ih]
    by_cases hb : x.testBit k = true
    · rw [if_pos hb, if_pos hb, hx]
    · rw [if_neg hb, if_neg hb]
theorem jg_lin16 (f g : Nat → Nat) (h0 : f 0 = 0) (hx : ∀ a b, f (a ^^^ b) = f a ^^^ f b) (hg : ∀ i, i < 16 → g i = f (2 ^ i)) {x : Nat} (h : x < 65536) : jg_ap g x 16 = f x := by
  rw [jg_ap_cong hg, jg_lin f h0 hx x 16, Nat.mod_eq_of_lt (show x < 2 ^ 16 by omega)]
theorem jg_ap_eq (g : Nat → Nat) (n : Nat) (hg : ∀ i, i < 16 → g i = jg_i n (2 ^ i)) {x : Nat} (h : x < 65536) : jg_ap g x 16 = jg_i n x :=
  jg_lin16 (jg_i n) g (jg_i_0 n) (jg_i_xor n) hg h
theorem jg_two (k x : Nat) : jg_i (2 ^ (k + 1)) x = jg_i (2 ^ k) (jg_i (2 ^ k) x) := by
  rw [← jg_i_add]
  congr 1
  rw [Nat.pow_succ]
  omega
/-! ===== n steps by the binary digits of n ===== -/
def jg_wd (n x : Nat) : Nat → Nat
  | 0 => x
  | k + 1 => if n.testBit k = true then jg_i (2 ^ k) (jg_wd n x k) else jg_wd n x k
theorem jg_wd_z (n x : Nat) : jg_wd n x 0 = x := rfl
theorem jg_wd_s (n x k : Nat) : jg_wd n x (k + 1) = if n.testBit k = true then jg_i (2 ^ k) (jg_wd n x k) else jg_wd n x k := rfl
theorem jg_modp (n k : Nat) : n % 2 ^ (k + 1) = if n.testBit k = true then 2 ^ k + n % 2 ^ k else n % 2 ^ k := by
  rw [Nat.mod_pow_succ, Nat.testBit_eq_decide_div_mod_eq]
  rcases Nat.mod_two_eq_zero_or_one (n / 2 ^ k) with h | h
  · rw [h]; simp
  · rw [h]; simp; omega
theorem jg_wd_eq (n x : Nat) : ∀ k, jg_wd n x k = jg_i (n % 2 ^ k) x := by
  intro k
  induction k with
  | zero => rw [jg_wd_z, Nat.pow_zero, Nat.mod_one]; rfl
  | succ k ih =>
    rw [jg_wd_s, jg_modp, ih]
    by_cases hb : n.testBit k = true
    · rw [if_pos hb, if_pos hb, jg_i_add]
    · rw [if_neg hb, if_neg hb]
/-! ===== the table, as numbers ===== -/
def jg_L (k : Nat) : List Nat := match k with
  | 0 => [33153, 770, 1797, 3594, 7188, 14376, 28752, 57504, 49472, 769, 1538, 3076, 6152, 12304, 24608, 49216]
  | 1 => [24609, 49475, 17095, 1039, 2335, 4670, 9340, 18680, 4464, 17344, 1537, 3331, 6662, 13324, 26648, 53296]
  | 2 => [11787, 11334, 42233, 57771, 62150, 50540, 19352, 5809, 13355, 22060, 9696, 47888, 55105, 28355, 23559, 47375]
  | 3 => [17913, 13076, 22287, 36827, 57136, 16229, 32972, 43933, 47848, 30900, 59213, 11100, 4157, 42364, 45826, 51369]
  | 4 => [61313, 65314, 10263, 52147, 34190, 5715, 15148, 27989, 46575, 12760, 58919, 52052, 27973, 34877, 36000, 3629]
  | 5 => [8480, 10176, 65107, 9157, 11318, 5307, 24556, 58677, 2992, 18643, 62376, 23387, 24763, 23169, 22616, 1757]
  | 6 => [17802, 20627, 61861, 31816, 4972, 27534, 41095, 7138, 50560, 37644, 62871, 30244, 64068, 61310, 13223, 53538]
  | 7 => [13449, 54388, 63100, 31201, 59948, 15085, 49410, 23188, 51568, 61447, 11162, 55853, 17333, 56799, 55142, 58972]
  | 8 => [41484, 48810, 60051, 53155, 29631, 44591, 11326, 63549, 13220, 47569, 9128, 55644, 42673, 21650, 47493, 37835]
  | 9 => [23480, 1494, 35189, 4219, 56808, 5061, 59500, 23453, 50391, 36512, 18262, 7350, 55937, 2484, 15282, 47113]
  | 10 => [12857, 24891, 38116, 45781, 30274, 61898, 62494, 62257, 32239, 9489, 36788, 39026, 51977, 50340, 5522, 15433]
  | 11 => [11736, 51846, 6901, 49477, 9663, 36696, 39050, 52025, 62400, 29316, 37676, 32159, 27067, 12400, 56602, 27801]
  | 12 => [39498, 42450, 43225, 60900, 3500, 32542, 47175, 2850, 15039, 10137, 53390, 19402, 9456, 27558, 60215, 450]
  | 13 => [47376, 39758, 59593, 17418, 37114, 53056, 10840, 35872, 8240, 55086, 9672, 18056, 31487, 44874, 12876, 11272]
  | 14 => [4095, 64180, 44260, 51392, 28785, 41026, 49220, 32776, 61680, 20128, 18624, 2176, 256, 57856, 33792, 34816]
  | _ => [65280, 22015, 26282, 17612, 30856, 20720, 24736, 16576, 32639, 43690, 52428, 34952, 61680, 41120, 49344, 32896]
def jg_r (k i : Nat) : Nat := (jg_L k).getD i 0
theorem jg_r0 : ∀ i, i < 16 → jg_T (2 ^ i) = jg_r 0 i := by decide +kernel
set_option maxRecDepth 100000 in
theorem jg_r1 : ∀ k, k < 15 → ∀ i, i < 16 → jg_ap (jg_r k) (jg_r k i) 16 = jg_r (k + 1) i := by decide +kernel
set_option maxRecDepth 100000 in
theorem jg_r_lt : ∀ k, k < 16 → ∀ i, i < 16 → jg_r k i < 65536 := by decide +kernel
theorem jg_row : ∀ k, k < 16 → ∀ i, i < 16 → jg_i (2 ^ k) (2 ^ i) = jg_r k i := by
  intro k
  induction k with
  | zero => intro _ i hi; rw [← jg_r0 i hi]; rfl
  | succ k ih =>
    intro hk i hi
    have ih := ih (by omega)
    rw [jg_two, ih i hi, ← jg_r1 k (by omega) i hi]
    exact (jg_ap_eq (jg_r k) (2 ^ k) (fun j hj => (ih j hj).symm) (jg_r_lt k (by omega) i hi)).symm
def jg_ev (n x : Nat) : Nat → Nat
  | 0 => x
  | k + 1 => if n.testBit k = true then jg_ap (jg_r k) (jg_ev n x k) 16 else jg_ev n x k
theorem jg_ev_eq {n x : Nat} (h : x < 65536) : ∀ k, k ≤ 16 → jg_ev n x k = jg_wd n x k := by
  intro k
  induction k with
  | zero => intro _; rfl
  | succ k ih =>
    intro hk
    have ih := ih (by omega)
    have hl : jg_wd n x k < 65536 := by rw [jg_wd_eq]; exact jg_i_lt h
    show (if n.testBit k = true then jg_ap (jg_r k) (jg_ev n x k) 16 else jg_ev n x k) = _
    rw [jg_wd_s, ih, jg_ap_eq (jg_r k) (2 ^ k) (fun j hj => (jg_row k (by omega) j hj).symm) hl]
theorem jg_go {n x : Nat} (h : x < 65536) (hn : n < 65536) : jg_i n x = jg_ev n x 16 := by
  rw [jg_ev_eq h 16 (by omega), jg_wd_eq, Nat.mod_eq_of_lt (show n < 2 ^ 16 by omega)]
set_option maxRecDepth 100000 in
theorem jg_k1 : ∀ i, i < 16 → jg_ev 65535 (2 ^ i) 16 = 2 ^ i := by decide +kernel
set_option maxRecDepth 100000 in
theorem jg_k2 : jg_ev 21845 1 16 ≠ 1 ∧ jg_ev 13107 1 16 ≠ 1 ∧ jg_ev 3855 1 16 ≠ 1 ∧ jg_ev 255 1 16 ≠ 1 := by decide +kernel
set_option maxRecDepth 100000 in
theorem jg_k3 : ∀ i, i < 16 → jg_ev 65534 (2 ^ i) 16 = jg_U (2 ^ i) := by decide +kernel
/-! ===== the cycle: 65535 steps, every state but 0 ===== -/
theorem jg_b16 : ∀ i, i < 16 → 2 ^ i < 65536 := by decide
theorem jg_id16 {x : Nat} (h : x < 65536) : jg_ap (fun i => 2 ^ i) x 16 = x := jg_lin16 (fun y => y) _ rfl (fun _ _ => rfl) (fun _ _ => rfl) h
theorem jg_per {x : Nat} (h : x < 65536) : jg_i 65535 x = x := by
  rw [← jg_ap_eq (fun i => 2 ^ i) 65535 (fun i hi => by rw [jg_go (jg_b16 i hi) (by omega), jg_k1 i hi]) h, jg_id16 h]
theorem jg_U_eq {x : Nat} (h : x < 65536) : jg_U x = jg_i 65534 x := by
  rw [← jg_lin16 jg_U (fun i => jg_U (2 ^ i)) jg_U_0 jg_U_xor (fun _ _ => rfl) h]
  exact jg_ap_eq _ 65534 (fun i hi => by rw [jg_go (jg_b16 i hi) (by omega), jg_k3 i hi]) h
theorem jg_pers {x : Nat} (h : x < 65536) (q : Nat) : jg_i (65535 * q) x = x := by
  induction q with
  | zero => rfl
  | succ q ih => rw [show 65535 * (q + 1) = 65535 * q + 65535 by omega, jg_i_add, jg_per h, ih]
theorem jg_mod {x : Nat} (h : x < 65536) (n : Nat) : jg_i n x = jg_i (n % 65535) x := by
  have e : n = n % 65535 + 65535 * (n / 65535) := by omega
  have e2 : jg_i (n % 65535 + 65535 * (n / 65535)) x = jg_i (n % 65535) x := by rw [jg_i_add, jg_pers h]
  rw [← e] at e2
  exact e2
theorem jg_can {c x y : Nat} (hx : x < 65536) (hy : y < 65536) (h : jg_i c x = jg_i c y) : x = y := by
  have e : 65535 * c = 65534 * c + c := by omega
  rw [← jg_pers hx c, ← jg_pers hy c, e, jg_i_add, jg_i_add, h]
theorem jg_pos {n x : Nat} (h0 : 0 < x) (h : x < 65536) : 0 < jg_i n x := by
  rcases Nat.eq_zero_or_pos (jg_i n x) with e | e
  · have := jg_can (c := n) h (show 0 < 65536 by omega) (by rw [e, jg_i_0])
    omega
  · exact e
theorem jg_divs1 : ∀ m, m < 257 → 65535 % m = 0 → 21845 % m = 0 ∨ 13107 % m = 0 ∨ 3855 % m = 0 ∨ 255 % m = 0 := by decide +kernel
theorem jg_divs2 : ∀ q, q < 256 → q ≠ 1 → 65535 % q = 0 → 21845 % (65535 / q) = 0 ∨ 13107 % (65535 / q) = 0 ∨ 3855 % (65535 / q) = 0 ∨ 255 % (65535 / q) = 0 := by decide +kernel
theorem jg_divs {m : Nat} (hm : m < 65535) (h : 65535 % m = 0) : 21845 % m = 0 ∨ 13107 % m = 0 ∨ 3855 % m = 0 ∨ 255 % m = 0 := by
  rcases Nat.lt_or_ge m 257 with q | q
  · exact jg_divs1 m q h
  · obtain ⟨z, hz⟩ := Nat.dvd_of_mod_eq_zero h
    have z1 : z < 256 := by
      rcases Nat.lt_or_ge z 256 with a | a
      · exact a
      · have := Nat.mul_le_mul q a
        omega
    have z0 : 0 < z := by
      rcases Nat.eq_zero_or_pos z with a | a
      · subst a; omega
      · exact a
    have e : 65535 / z = m := by rw [hz]; exact Nat.mul_div_cancel m z0
    have e2 : 65535 % z = 0 := by rw [hz]; exact Nat.mul_mod_left m z
    have z2 : z ≠ 1 := by intro a; subst a; omega
    have := jg_divs2 z z1 z2 e2
    rw [e] at this
    exact this
theorem jg_mul {m : Nat} (h : jg_i m 1 = 1) (q : Nat) : jg_i (m * q) 1 = 1 := by
  induction q with
  | zero => rfl
  | succ q ih => rw [Nat.mul_succ, jg_i_add, h, ih]
theorem jg_fix {m n : Nat} (h : jg_i m 1 = 1) (hn : jg_i n 1 = 1) : jg_i (n % m) 1 = 1 := by
  have e : n = n % m + m * (n / m) := (Nat.mod_add_div n m).symm
  rw [e, jg_i_add, jg_mul h] at hn
  exact hn
theorem jg_ord {n : Nat} (h0 : 0 < n) (hn : n < 65535) : jg_i n 1 ≠ 1 := by
  intro h
  obtain ⟨m, ⟨m0, m1⟩, m2⟩ := pk_least (fun k => 0 < k ∧ jg_i k 1 = 1) ⟨n, h0, h⟩
  have mn : m ≤ n := by
    rcases Nat.lt_or_ge n m with q | q
    · exact absurd ⟨h0, h⟩ (m2 n q)
    · exact q
  have hd : 65535 % m = 0 := by
    have a1 := jg_fix m1 (jg_per (x := 1) (by omega))
    rcases Nat.eq_zero_or_pos (65535 % m) with q | q
    · exact q
    · exact absurd ⟨q, a1⟩ (m2 _ (Nat.mod_lt _ m0))
  have hz : ∀ c, c < 65536 → c % m = 0 → jg_ev c 1 16 = 1 := by
    intro c hc h1
    rw [← jg_go (by omega) hc]
    obtain ⟨q, hq⟩ := Nat.dvd_of_mod_eq_zero h1
    rw [hq, jg_mul m1]
  obtain ⟨k1, k2, k3, k4⟩ := jg_k2
  rcases jg_divs (by omega) hd with q | q | q | q
  · exact k1 (hz _ (by omega) q)
  · exact k2 (hz _ (by omega) q)
  · exact k3 (hz _ (by omega) q)
  · exact k4 (hz _ (by omega) q)
theorem jg_apart1 {i j : Nat} (hij : i < j) (hj : j < 65535) : jg_i i 1 ≠ jg_i j 1 := by
  intro h
  rw [show j = i + (j - i) by omega, jg_i_add] at h
  exact jg_ord (n := j - i) (by omega) (by omega) (jg_can (show 1 < 65536 by omega) (jg_i_lt (by omega)) h).symm
theorem jg_orb {x : Nat} (h0 : 0 < x) (h : x < 65536) : ∃ a, a < 65535 ∧ jg_i a 1 = x := by
  obtain ⟨a, ha, he⟩ := fb_onto (n := 65535) (f := fun a => jg_i a 1 - 1) (fun i _ => by
    have b1 := jg_i_lt (n := i) (show 1 < 65536 by omega)
    have b2 := jg_pos (n := i) (show 0 < 1 by omega) (by omega)
    show jg_i i 1 - 1 < 65535
    omega) (fun i j hij hj e => by
    have b1 := jg_pos (n := i) (show 0 < 1 by omega) (by omega)
    have b2 := jg_pos (n := j) (show 0 < 1 by omega) (by omega)
    have e : jg_i i 1 - 1 = jg_i j 1 - 1 := e
    exact jg_apart1 hij hj (by omega)) (y := x - 1) (by omega)
  have he : jg_i a 1 - 1 = x - 1 := he
  have b1 := jg_pos (n := a) (show 0 < 1 by omega) (by omega)
  exact ⟨a, ha, by omega⟩
/-- two states of one start differ within a round -/
theorem jg_apart {x i j : Nat} (h0 : 0 < x) (h : x < 65536) (hij : i < j) (hj : j < i + 65535) : jg_i i x ≠ jg_i j x := by
  intro e
  obtain ⟨a, _, rfl⟩ := jg_orb h0 h
  rw [show j = i + (j - i) by omega, jg_i_add] at e
  have e := jg_can (c := i) h (jg_i_lt h) e
  rw [← jg_i_add, Nat.add_comm, jg_i_add] at e
  exact jg_ord (n := j - i) (by omega) (by omega) (jg_can (c := a) (show 1 < 65536 by omega) (jg_i_lt (by omega)) e).symm
theorem jg_uni {x i j : Nat} (h0 : 0 < x) (h : x < 65536) (hi : i < 65535) (hj : j < 65535) (e : jg_i i x = jg_i j x) : i = j := by
  rcases Nat.lt_trichotomy i j with q | q | q
  · exact absurd e (jg_apart h0 h q (by omega))
  · exact q
  · exact absurd e.symm (jg_apart h0 h q (by omega))
theorem jg_dist {x y : Nat} (h0 : 0 < x) (h : x < 65536) (g0 : 0 < y) (g : y < 65536) : ∃ d, d < 65535 ∧ jg_i d x = y := by
  obtain ⟨a, ha, rfl⟩ := jg_orb h0 h
  obtain ⟨b, hb, rfl⟩ := jg_orb g0 g
  refine ⟨(b + (65535 - a)) % 65535, Nat.mod_lt _ (by omega), ?_⟩
  rw [← jg_mod (jg_i_lt (by omega)), ← jg_i_add, show b + (65535 - a) + a = b + 65535 by omega, jg_i_add, jg_per (by omega)]
/-! ===== back steps, any number of steps ===== -/
def jg_b : Nat → Nat → Nat
  | 0, x => x
  | n + 1, x => jg_U (jg_b n x)
theorem jg_b_eq {x : Nat} (h : x < 65536) (n : Nat) : jg_b n x = jg_i (65534 * n) x := by
  induction n with
  | zero => rfl
  | succ n ih =>
    show jg_U (jg_b n x) = _
    rw [ih, jg_U_eq (jg_i_lt h), show 65534 * (n + 1) = 65534 + 65534 * n by omega, jg_i_add]
/-- a state after any number of steps, forwards or backwards -/
def jg_w (x : Nat) (n : Int) : Nat := jg_i (n % 65535).toNat x
theorem jg_w_fwd {x : Nat} (h : x < 65536) (n : Nat) : jg_w x (n : Int) = jg_i n x := by
  rw [jg_mod h n]
  unfold jg_w
  congr 1
theorem jg_w_bwd {x : Nat} (h : x < 65536) (n : Nat) : jg_w x (-(n : Int)) = jg_b n x := by
  rw [jg_b_eq h, jg_mod h]
  unfold jg_w
  congr 1
  omega
theorem jg_w_lt {x : Nat} (h : x < 65536) (n : Int) : jg_w x n < 65536 := jg_i_lt h
theorem jg_w_pos {x : Nat} (h0 : 0 < x) (h : x < 65536) (n : Int) : 0 < jg_w x n := jg_pos h0 h
theorem jg_w_xor (a b : Nat) (n : Int) : jg_w (a ^^^ b) n = jg_w a n ^^^ jg_w b n := jg_i_xor _ a b
/-! ===== exclusive sums of rows ===== -/
def jg_S (x : Nat) : Nat → Nat
  | 0 => 0
  | n + 1 => jg_S x n ^^^ jg_i n x
theorem jg_S_s (x n : Nat) : jg_S x (n + 1) = jg_S x n ^^^ jg_i n x := rfl
theorem jg_S_add (x a b : Nat) : jg_S x (a + b) = jg_S x a ^^^ jg_i a (jg_S x b) := by
  induction b with
  | zero => rw [Nat.add_zero, show jg_S x 0 = 0 from rfl, jg_i_0, Nat.xor_zero]
  | succ b ih => rw [← Nat.add_assoc, jg_S_s, jg_S_s, ih, jg_i_xor, jg_i_add, Nat.xor_assoc]
theorem jg_S_lt {x : Nat} (h : x < 65536) (n : Nat) : jg_S x n < 65536 := by
  induction n with
  | zero => show 0 < 65536; omega
  | succ n ih => exact Nat.xor_lt_two_pow (n := 16) ih (jg_i_lt h)
theorem jg_S_two {x : Nat} (h : x < 65536) (n : Nat) : jg_S x n ^^^ jg_w (jg_S x n) (n : Int) = jg_S x (2 * n) := by
  rw [jg_w_fwd (jg_S_lt h n), ← jg_S_add]
  congr 1
  omega
/-! ===== the least number of steps to a state that ends in k zeros ===== -/
theorem jg_round {x k : Nat} (h0 : 0 < x) (h : x < 65536) (hk : k ≤ 8) : ∃ d, d < 65535 ∧ jg_i d x % 2 ^ k = 0 ∧ ∀ j, j < d → jg_i j x % 2 ^ k ≠ 0 := by
  obtain ⟨e, he, hx⟩ := jg_dist h0 h (show 0 < 256 by omega) (by omega)
  obtain ⟨d, h1, h2⟩ := pk_least (fun j => jg_i j x % 2 ^ k = 0) ⟨e, by
    rw [hx]
    exact (by decide : ∀ k, k < 9 → 256 % 2 ^ k = 0) k (by omega)⟩
  refine ⟨d, ?_, h1, h2⟩
  rcases Nat.lt_or_ge e d with q | q
  · exact absurd (by rw [hx]; exact (by decide : ∀ k, k < 9 → 256 % 2 ^ k = 0) k (by omega)) (h2 e q)
  · omega
end
section
/-! ints: what the code's arithmetic comes to, by nI -/
theorem jg_xor (a b : Nat) : nI a ^^^ nI b = nI (a ^^^ b) := by
  apply Int32.toBitVec_inj.1
  show BitVec.ofNat 32 a ^^^ BitVec.ofNat 32 b = BitVec.ofNat 32 (a ^^^ b)
  apply BitVec.eq_of_getLsbD_eq
  intro i hi
  simp [hi]
theorem jg_and (a b : Nat) : nI a &&& nI b = nI (a &&& b) := by
  apply Int32.toBitVec_inj.1
  show BitVec.ofNat 32 a &&& BitVec.ofNat 32 b = BitVec.ofNat 32 (a &&& b)
  apply BitVec.eq_of_getLsbD_eq
  intro i hi
  simp [hi]
theorem jg_m16 (k : Nat) : nI k &&& 65535 = nI (k % 65536) := by
  show nI k &&& nI 65535 = _
  rw [jg_and, show (65535 : Nat) = 2 ^ 16 - 1 from rfl, Nat.and_two_pow_sub_one_eq_mod]
theorem jg_sl : ∀ n, n < 32 → ((nI n &&& 31).toBitVec.smod 32).toNat = n := by decide +kernel
theorem jg_shl {n k : Nat} (hk : k < 32) (h : n * 2 ^ k < 2 ^ 32) : nI n <<< (nI k &&& 31) = nI (n * 2 ^ k) := pk_shlN _ k (jg_sl k hk) h
theorem jg_shr {n k : Nat} (hk : k < 32) (h : n < 2 ^ 31) : nI n >>> (nI k &&& 31) = nI (n / 2 ^ k) := pk_shrN h _ k (jg_sl k hk)
theorem jg_lt16 {a b : Nat} (ha : a < 65536) (hb : b < 65536) : a ^^^ b < 65536 := Nat.xor_lt_two_pow (n := 16) ha hb
theorem jg_A_nat {n : Nat} (h : n < 65536) : n ^^^ (n * 2 ^ 7 % 65536) = jg_A n := by
  unfold jg_A
  rw [Nat.xor_mod_two_pow, Nat.shiftLeft_eq, Nat.mod_eq_of_lt (show n < 2 ^ 16 by omega)]
theorem jg_C_nat {n : Nat} (h : n < 65536) : n ^^^ (n * 2 ^ 8 % 65536) = jg_C n := by
  unfold jg_C
  rw [Nat.xor_mod_two_pow, Nat.shiftLeft_eq, Nat.mod_eq_of_lt (show n < 2 ^ 16 by omega)]
theorem jg_A_lt (n : Nat) : jg_A n < 65536 := Nat.mod_lt _ (by decide)
theorem jg_C_lt (n : Nat) : jg_C n < 65536 := Nat.mod_lt _ (by decide)
theorem jg_B_lt {n : Nat} (h : n < 65536) : jg_B n < 65536 := by
  unfold jg_B
  refine jg_lt16 h ?_
  rw [Nat.shiftRight_eq_div_pow]
  exact Nat.lt_of_le_of_lt (Nat.div_le_self _ _) h
/-- the three changes of a step, as the class writes them -/
theorem jg_sA {n : Nat} (h : n < 65536) : nI n ^^^ ((nI n <<< (nI 7 &&& 31)) &&& 65535) = nI (jg_A n) := by
  rw [jg_shl (by omega) (by omega), jg_m16, jg_xor, jg_A_nat h]
theorem jg_sB {n : Nat} (h : n < 65536) : nI n ^^^ (nI n >>> (nI 9 &&& 31)) = nI (jg_B n) := by
  rw [jg_shr (by omega) (by omega), jg_xor]
  unfold jg_B
  rw [Nat.shiftRight_eq_div_pow]
theorem jg_sC {n : Nat} (h : n < 65536) : nI n ^^^ ((nI n <<< (nI 8 &&& 31)) &&& 65535) = nI (jg_C n) := by
  rw [jg_shl (by omega) (by omega), jg_m16, jg_xor, jg_C_nat h]
/-- as the reference writes them -/
theorem jg_mA {n : Nat} (h : n < 65536) : (nI n ^^^ (nI n <<< (nI 7 &&& 31))) &&& 65535 = nI (jg_A n) := by
  rw [jg_shl (by omega) (by omega), jg_xor, jg_m16]
  unfold jg_A
  rw [Nat.shiftLeft_eq]
theorem jg_mC {n : Nat} (h : n < 65536) : (nI n ^^^ (nI n <<< (nI 8 &&& 31))) &&& 65535 = nI (jg_C n) := by
  rw [jg_shl (by omega) (by omega), jg_xor, jg_m16]
  unfold jg_C
  rw [Nat.shiftLeft_eq]
theorem jg_mD {n : Nat} (h : n < 65536) : ((nI n ^^^ (nI n <<< (nI 7 &&& 31))) ^^^ (nI n <<< (nI 14 &&& 31))) &&& 65535 = nI (jg_D n) := by
  rw [jg_shl (k := 7) (by omega) (by omega), jg_shl (k := 14) (by omega) (by omega), jg_xor, jg_xor, jg_m16]
  unfold jg_D
  rw [Nat.shiftLeft_eq, Nat.shiftLeft_eq]
/-- a bit -/
theorem jg_bit {x i : Nat} (hx : x < 2 ^ 31) (hi : i < 32) : (nI x >>> (nI i &&& 31)) &&& nI 1 = 0 ↔ ¬ x.testBit i = true := by
  rw [jg_shr hi hx, jg_and, Nat.and_one_is_mod, ← nI_0, nI_eq (by omega) (by omega), Nat.testBit_eq_decide_div_mod_eq, decide_eq_true_iff]
  generalize x / 2 ^ i = z
  omega
theorem jg_pw : ∀ i, i < 31 → nI 1 <<< (nI i &&& 31) = nI (2 ^ i) := by decide +kernel
theorem jg_msk {x k : Nat} (hk : k ≤ 8) : nI x &&& ((nI 1 <<< (nI k &&& 31)) - nI 1) = nI (x % 2 ^ k) := by
  have h1 : 1 ≤ 2 ^ k := Nat.one_le_two_pow
  rw [jg_pw k (by omega), pk_sub h1, jg_and, Nat.and_two_pow_sub_one_eq_mod]
theorem jg_short : ∀ j, j < 256 → (nI j).toInt16.toInt32 = nI j := by decide +kernel
theorem jg_nars : ∀ j, j < 256 → vp_nar .short (nI j) = nI j := by decide +kernel
/-! ===== orders and ranges ===== -/
abbrev jg_isS (s : Int32) : Prop := 1 ≤ s ∧ s ≤ 65535
abbrev jg_isM (m : Int32) : Prop := 0 ≤ m ∧ m < 8
abbrev jg_nr (n : Int32) : Prop := -100000 ≤ n ∧ n ≤ 100000
abbrev jg_up (n : Int32) : Prop := 0 ≤ n ∧ n ≤ 100000
theorem jg_ge {a b : Int32} (h : ¬ a < b) : b ≤ a := by rw [Int32.lt_iff_toInt_lt] at h; rw [Int32.le_iff_toInt_le]; omega
theorem jg_gt {a b : Int32} (h : ¬ a ≤ b) : b < a := by rw [Int32.le_iff_toInt_le] at h; rw [Int32.lt_iff_toInt_lt]; omega
theorem jg_nle {a b : Int32} (h : a < b) : ¬ b ≤ a := by rw [Int32.lt_iff_toInt_lt] at h; rw [Int32.le_iff_toInt_le]; omega
theorem jg_nlt {a b : Int32} (h : a ≤ b) : ¬ b < a := by rw [Int32.le_iff_toInt_le] at h; rw [Int32.lt_iff_toInt_lt]; omega
theorem jg_isS_of {s : Int32} (h : jg_isS s) : ∃ n : Nat, 0 < n ∧ n < 65536 ∧ s = nI n := by
  obtain ⟨j, h1, h2⟩ := nI_of2 (x := s) (M := 65535) (n := 65535) (by decide) (by
    have a := h.1
    rw [Int32.le_iff_toInt_le] at a
    rw [Int32.lt_iff_toInt_lt]
    have b : (1 : Int32).toInt = 1 := by decide
    have c : (0 : Int32).toInt = 0 := by decide
    omega) h.2
  refine ⟨j, ?_, by omega, h2⟩
  have a := h.1
  rw [h2] at a
  have a : nI 1 ≤ nI j := a
  rw [nI_leI (by omega) (by omega)] at a
  omega
theorem jg_isM_of {s : Int32} (h : jg_isM s) : ∃ n : Nat, n < 8 ∧ s = nI n := by
  obtain ⟨j, h1, h2⟩ := nI_of (x := s) (jg_nlt h.1)
  refine ⟨j, ?_, h2⟩
  have a := h.2
  rw [h2] at a
  have a : nI j < nI 8 := a
  rw [nI_ltI (by omega) (by omega)] at a
  exact a
theorem jg_up_of {s : Int32} (h : jg_up s) : ∃ n : Nat, n ≤ 100000 ∧ s = nI n := nI_of2 (x := s) (M := 100000) (n := 100000) (by decide) (jg_nlt h.1) h.2
/-- any int: a number, or one below nothing -/
theorem jg_sgn (n : Int32) : (∃ k : Nat, k < 2 ^ 31 ∧ n = nI k) ∨ ∃ k : Nat, 0 < k ∧ k ≤ 2 ^ 31 ∧ n.toInt = -(k : Int) := by
  by_cases h : n < 0
  · right
    refine ⟨(-n.toInt).toNat, ?_⟩
    rw [Int32.lt_iff_toInt_lt] at h
    have c : (0 : Int32).toInt = 0 := by decide
    have d := Int32.le_toInt n
    omega
  · exact Or.inl (nI_of h)
/-- the remainder by 65535, as the class takes it -/
theorem jg_rem (n : Int32) : (n - n / 65535 * 65535).toInt = n.toInt.tmod 65535 := by
  have d1 := Int32.le_toInt n
  have d2 := Int32.toInt_lt n
  have e : (65535 : Int32).toInt = 65535 := by decide
  rw [Int32.toInt_sub, Int32.toInt_mul, Int32.toInt_div_of_ne_right _ _ (by decide), e]
  have h := Int.tmod_def n.toInt 65535
  have h2 : n.toInt.tmod 65535 < 65535 := Int.tmod_lt_of_pos _ (by omega)
  have h3 : -65535 < n.toInt.tmod 65535 := Int.lt_tmod_of_pos _ (by omega)
  have h4 : 0 ≤ n.toInt → 0 ≤ n.toInt.tmod 65535 := fun q => Int.tmod_nonneg _ q
  have h5 : n.toInt ≤ 0 → n.toInt.tmod 65535 ≤ 0 := fun q => by
    have z := Int.tmod_nonneg (a := -n.toInt) 65535 (by omega)
    rw [Int.neg_tmod] at z
    omega
  have e2 : (n.toInt.tdiv 65535 * 65535).bmod (2 ^ 32) = n.toInt.tdiv 65535 * 65535 := by
    rcases Int.le_total 0 n.toInt with q | q
    · have h4 := h4 q
      apply Int.bmod_eq_of_le <;> omega
    · have h5 := h5 q
      apply Int.bmod_eq_of_le <;> omega
  rw [e2]
  have e3 : n.toInt - n.toInt.tdiv 65535 * 65535 = n.toInt.tmod 65535 := by omega
  rw [e3]
  apply Int.bmod_eq_of_le <;> omega
theorem jg_of_toInt {x : Int32} {k : Nat} (hk : k < 2 ^ 31) (h : x.toInt = (k : Int)) : x = nI k := Int32.toInt_inj.mp (by rw [h, nI_toInt hk])
theorem jg_rem_hi {n : Int32} (h : 0 ≤ n - n / 65535 * 65535) : n - n / 65535 * 65535 = nI (n.toInt % 65535).toNat := by
  rw [Int32.le_iff_toInt_le, jg_rem] at h
  have c : (0 : Int32).toInt = 0 := by decide
  rw [c] at h
  have h2 := Int.emod_lt_of_pos n.toInt (show (0 : Int) < 65535 by omega)
  have h3 := Int.emod_nonneg n.toInt (show (65535 : Int) ≠ 0 by omega)
  refine jg_of_toInt (by omega) ?_
  rw [jg_rem, Int.toNat_of_nonneg h3]
  have q := Int.tmod_def n.toInt 65535
  have q1 : n.toInt.tmod 65535 < 65535 := Int.tmod_lt_of_pos _ (by omega)
  omega
theorem jg_rem_lo {n : Int32} (h : ¬ 0 ≤ n - n / 65535 * 65535) : n - n / 65535 * 65535 + 65535 = nI (n.toInt % 65535).toNat := by
  rw [Int32.le_iff_toInt_le, jg_rem] at h
  have c : (0 : Int32).toInt = 0 := by decide
  have c2 : (65535 : Int32).toInt = 65535 := by decide
  rw [c] at h
  have h2 := Int.emod_lt_of_pos n.toInt (show (0 : Int) < 65535 by omega)
  have h3 := Int.emod_nonneg n.toInt (show (65535 : Int) ≠ 0 by omega)
  have q := Int.tmod_def n.toInt 65535
  have q1 : -65535 < n.toInt.tmod 65535 := Int.lt_tmod_of_pos _ (by omega)
  refine jg_of_toInt (by omega) ?_
  rw [Int32.toInt_add, jg_rem, c2, Int.toNat_of_nonneg h3]
  have e : n.toInt.tmod 65535 + 65535 = n.toInt % 65535 := by omega
  rw [e]
  apply Int.bmod_eq_of_le <;> omega
/-! ===== the answers ===== -/
/-- the number of steps from one state to another -/
noncomputable def jg_d (x y : Nat) : Nat := Classical.epsilon (fun d => d < 65535 ∧ jg_i d x = y)
theorem jg_d_spec {x y : Nat} (h0 : 0 < x) (h : x < 65536) (g0 : 0 < y) (g : y < 65536) : jg_d x y < 65535 ∧ jg_i (jg_d x y) x = y := Classical.epsilon_spec (jg_dist h0 h g0 g)
/-- the number of steps to a state that ends in k zeros -/
noncomputable def jg_e (x k : Nat) : Nat := Classical.epsilon (fun d => d < 65535 ∧ jg_i d x % 2 ^ k = 0 ∧ ∀ j, j < d → jg_i j x % 2 ^ k ≠ 0)
theorem jg_e_spec {x k : Nat} (h0 : 0 < x) (h : x < 65536) (hk : k ≤ 8) : jg_e x k < 65535 ∧ jg_i (jg_e x k) x % 2 ^ k = 0 ∧ ∀ j, j < jg_e x k → jg_i j x % 2 ^ k ≠ 0 := Classical.epsilon_spec (jg_round h0 h hk)
def jg_qSeed (s : Int32) : Int32 := if jg_isS s then 1 else 0
def jg_cSeed (c s : Int32) : Int32 := if jg_isS s then s else c
def jg_qJump (x : Nat) (n : Int32) : Int32 := if jg_nr n then nI (jg_w x n.toInt) else -1
def jg_cJump (x : Nat) (n : Int32) : Int32 := if jg_nr n then nI (jg_w x n.toInt) else nI x
def jg_qMark (m : Int32) : Int32 := if jg_isM m then 1 else 0
def jg_fMark (f : Nat → Int32) (c m : Int32) : Nat → Int32 := if jg_isM m then upd f m.toNatClampNeg c else f
def jg_qBack (f : Nat → Int32) (m : Int32) : Int32 := if jg_isM m ∧ f m.toNatClampNeg ≠ 0 then 1 else 0
def jg_cBack (f : Nat → Int32) (c m : Int32) : Int32 := if jg_isM m ∧ f m.toNatClampNeg ≠ 0 then f m.toNatClampNeg else c
noncomputable def jg_qDist (x : Nat) (s : Int32) : Int32 := if jg_isS s then nI (jg_d x s.toNatClampNeg) else -1
noncomputable def jg_qBetw (f : Nat → Int32) (m n : Int32) : Int32 := if jg_isM m ∧ jg_isM n ∧ f m.toNatClampNeg ≠ 0 ∧ f n.toNatClampNeg ≠ 0 then nI (jg_d (f m.toNatClampNeg).toNatClampNeg (f n.toNatClampNeg).toNatClampNeg) else -1
def jg_qMix (x : Nat) (n : Int32) : Int32 := if jg_up n then nI (jg_S x n.toNatClampNeg) else -1
def jg_qBef (s n : Int32) : Int32 := if jg_isS s ∧ jg_up n then nI (jg_w s.toNatClampNeg (-n.toInt)) else -1
def jg_qApart (s t n : Int32) : Int32 := if jg_isS s ∧ jg_isS t ∧ jg_up n then nI (jg_w (s.toNatClampNeg ^^^ t.toNatClampNeg) n.toInt) else -1
noncomputable def jg_qNext (x : Nat) (k : Int32) : Int32 := if 0 ≤ k ∧ k ≤ 8 then nI (jg_e x k.toNatClampNeg) else -1
/-- what the marks hold -/
def jg_mk (f : Nat → Int32) : Prop := ∀ i, i < 8 → ∃ n : Nat, n < 65536 ∧ f i = nI n
/-! ===== the table of states a few steps on ===== -/
def jg_hs (x : Nat) : Nat := (((nI x * 40503) >>> (nI 6 &&& 31)) &&& 1023).toNatClampNeg
theorem jg_hs_spec (x : Nat) : ((nI x * 40503) >>> (nI 6 &&& 31)) &&& 1023 = nI (jg_hs x) ∧ jg_hs x < 1024 := by
  obtain ⟨j, h1, h2⟩ := pk_andE ((nI x * 40503) >>> (nI 6 &&& 31)) (m := 1023) 10 (by decide)
  have e : jg_hs x = j := by
    unfold jg_hs
    rw [h2, nI_clamp (by omega)]
  rw [e]
  exact ⟨h2, by omega⟩
theorem jg_wrap {h : Nat} (hh : h < 1024) : (nI h + nI 1) &&& nI 1023 = nI ((h + 1) % 1024) := by
  rw [nI_add, jg_and, show (1023 : Nat) = 2 ^ 10 - 1 from rfl, Nat.and_two_pow_sub_one_eq_mod]
def jg_at (ks : Nat → Int32) (x t : Nat) : Int32 := ks ((jg_hs x + t) % 1024)
/-- h is the place that is found for x -/
def jg_pl (ks : Nat → Int32) (x h : Nat) : Prop := ∃ t, t ≤ 1024 ∧ h = (jg_hs x + t) % 1024 ∧ (∀ u, u < t → jg_at ks x u ≠ 0 ∧ jg_at ks x u ≠ nI x) ∧ (t = 1024 ∨ jg_at ks x t = 0 ∨ jg_at ks x t = nI x)
/-- the table holds the states 0 .. j - 1 steps on from the goal -/
def jg_tb (goal j : Nat) (ks st : Nat → Int32) : Prop := ∃ p : Nat → Nat, (∀ a, a < j → p a < 1024 ∧ ks (p a) = nI (jg_i a goal) ∧ st (p a) = nI a ∧ ∃ t, t < 1024 ∧ p a = (jg_hs (jg_i a goal) + t) % 1024 ∧ ∀ u, u < t → jg_at ks (jg_i a goal) u ≠ 0 ∧ jg_at ks (jg_i a goal) u ≠ nI (jg_i a goal)) ∧ ∀ h, h < 1024 → ks h ≠ 0 → ∃ a, a < j ∧ h = p a
theorem jg_tb_0 {goal : Nat} {ks st : Nat → Int32} (h : ∀ i, i < 1024 → ks i = 0) : jg_tb goal 0 ks st := ⟨fun _ => 0, fun a ha => absurd ha (Nat.not_lt_zero _), fun i hi hk => absurd (h i hi) hk⟩
theorem jg_nz {n : Nat} (h0 : 0 < n) (h : n < 65536) : nI n ≠ 0 := nI_ne0 h0 (by omega)
theorem jg_ninj {a b : Nat} (ha : a < 65536) (hb : b < 65536) (h : nI a = nI b) : a = b := (nI_eq (by omega) (by omega)).mp h
theorem jg_tb_empty {goal j : Nat} {ks st : Nat → Int32} (hj : j < 1024) (h : jg_tb goal j ks st) : ∃ i, i < 1024 ∧ ks i = 0 := by
  obtain ⟨p, -, h2⟩ := h
  refine Classical.byContradiction fun hx => ?_
  have hk : ∀ i, i < 1024 → ∃ a, a < j ∧ i = p a := fun i hi => h2 i hi (fun e => hx ⟨i, hi, e⟩)
  have := fb_holes j 1024 (fun i => Classical.epsilon (fun a => a < j ∧ i = p a)) (fun i hi => (Classical.epsilon_spec (hk i hi)).1) (fun i i' hii hi' e => by
    have a1 := (Classical.epsilon_spec (hk i (by omega))).2
    have a2 := (Classical.epsilon_spec (hk i' hi')).2
    have e : Classical.epsilon (fun a => a < j ∧ i = p a) = Classical.epsilon (fun a => a < j ∧ i' = p a) := e
    rw [e, ← a2] at a1
    omega)
  omega
theorem jg_tb_put {goal j h : Nat} {ks st : Nat → Int32} (g0 : 0 < goal) (g : goal < 65536) (hj : j < 256) (ht : jg_tb goal j ks st) (hp : jg_pl ks (jg_i j goal) h) : jg_tb goal (j + 1) (upd ks h (nI (jg_i j goal))) (upd st h (nI j)) := by
  obtain ⟨i0, hi0, he0⟩ := jg_tb_empty (by omega) ht
  obtain ⟨p, h1, h2⟩ := ht
  obtain ⟨t, t1, t2, t3, t4⟩ := hp
  have hh : h < 1024 := by rw [t2]; exact Nat.mod_lt _ (by omega)
  have b1 : 0 < jg_i j goal := jg_pos g0 g
  have b2 : jg_i j goal < 65536 := jg_i_lt g
  have tl : t < 1024 := by
    rcases Nat.lt_or_ge t 1024 with q | q
    · exact q
    · exfalso
      have q1 := (t3 ((i0 + (1024 - jg_hs (jg_i j goal))) % 1024) (by omega)).1
      apply q1
      unfold jg_at
      have e : (jg_hs (jg_i j goal) + (i0 + (1024 - jg_hs (jg_i j goal))) % 1024) % 1024 = i0 := by
        have := (jg_hs_spec (jg_i j goal)).2
        omega
      rw [e, he0]
  have hz : ks h = 0 := by
    rcases t4 with q | q | q
    · omega
    · rw [t2]; exact q
    · exfalso
      have q : ks h = nI (jg_i j goal) := by rw [t2]; exact q
      obtain ⟨a, ha, e⟩ := h2 h hh (by rw [q]; exact jg_nz b1 b2)
      have q2 := (h1 a ha).2.1
      rw [← e, q] at q2
      have := jg_uni g0 g (by omega) (by omega) (jg_ninj b2 (jg_i_lt g) q2)
      omega
  refine ⟨fun a => if a = j then h else p a, fun a ha => ?_, fun i hi hk => ?_⟩
  · by_cases e : a = j
    · subst e
      simp only [if_pos rfl]
      refine ⟨hh, pk_us, pk_us, t, tl, t2, fun u hu => ?_⟩
      have q := t3 u hu
      have ne : (jg_hs (jg_i a goal) + u) % 1024 ≠ h := fun z => q.1 (by unfold jg_at; rw [z, hz])
      unfold jg_at at q ⊢
      rw [pk_un ne]
      exact q
    · simp only [if_neg e]
      obtain ⟨a1, a2, a3, u, a4, a5, a6⟩ := h1 a (by omega)
      have ne : p a ≠ h := fun z => jg_nz (jg_pos (n := a) g0 g) (jg_i_lt g) (by rw [← a2, z, hz])
      refine ⟨a1, by rw [pk_un ne]; exact a2, by rw [pk_un ne]; exact a3, u, a4, a5, fun v hv => ?_⟩
      have q := a6 v hv
      have ne : (jg_hs (jg_i a goal) + v) % 1024 ≠ h := fun z => q.1 (by unfold jg_at; rw [z, hz])
      unfold jg_at at q ⊢
      rw [pk_un ne]
      exact q
  · by_cases e : i = h
    · exact ⟨j, by omega, by simp only [if_pos rfl]; exact e⟩
    · rw [pk_un e] at hk
      obtain ⟨a, ha, q⟩ := h2 i hi hk
      exact ⟨a, by omega, by simp only [if_neg (show a ≠ j by omega)]; exact q⟩
theorem jg_tb_hit {goal j x h : Nat} {ks st : Nat → Int32} (g : goal < 65536) (ht : jg_tb goal j ks st) (x0 : 0 < x) (hx : x < 65536) (hh : h < 1024) (he : ks h = nI x) : ∃ a, a < j ∧ x = jg_i a goal ∧ st h = nI a := by
  obtain ⟨p, h1, h2⟩ := ht
  obtain ⟨a, ha, e⟩ := h2 h hh (by rw [he]; exact jg_nz x0 hx)
  obtain ⟨-, a2, a3, -⟩ := h1 a ha
  rw [← e] at a2 a3
  exact ⟨a, ha, jg_ninj hx (jg_i_lt g) (by rw [← he, a2]), a3⟩
theorem jg_tb_find {goal j a h : Nat} {ks st : Nat → Int32} (g0 : 0 < goal) (g : goal < 65536) (ht : jg_tb goal j ks st) (ha : a < j) (hp : jg_pl ks (jg_i a goal) h) : ks h = nI (jg_i a goal) := by
  obtain ⟨p, h1, -⟩ := ht
  obtain ⟨a1, a2, a3, u, a4, a5, a6⟩ := h1 a ha
  obtain ⟨t, t1, t2, t3, t4⟩ := hp
  have hu : jg_at ks (jg_i a goal) u = nI (jg_i a goal) := by unfold jg_at; rw [← a5]; exact a2
  have e : t = u := by
    rcases Nat.lt_trichotomy t u with q | q | q
    · exfalso
      have b := a6 t q
      rcases t4 with z | z | z
      · omega
      · exact b.1 z
      · exact b.2 z
    · exact q
    · exact absurd hu (t3 u q).2
  rw [t2, e, ← a5]
  exact a2
/-- giant steps: which one first meets the states noted -/
theorem jg_giant {x goal d i a : Nat} (h0 : 0 < x) (h : x < 65536) (hd : d < 65535) (e : jg_i d x = goal) (i0 : 0 < i) (ha : a < 256) (hm : jg_i (256 * i) x = jg_i a goal) (hi : 256 * i ≤ d + 255) : 256 * i = d + a := by
  rw [← e, ← jg_i_add] at hm
  rcases Nat.lt_trichotomy (256 * i) (a + d) with q | q | q
  · exact absurd hm (jg_apart h0 h q (by omega))
  · omega
  · exact absurd hm.symm (jg_apart h0 h q (by omega))
end
section
/-! rows over the machine that this claim's walks use -/
abbrev vwCl : List vw_C := [(RX0, TX0, 5), (RX1, TX1, 2)]
abbrev oX (c : Int32) (h1 h2 h3 h4 : Nat) : va_E := .inr (0, [.int c, .ref h1, .ref h2, .ref h3, .ref h4])
abbrev oM (c : Int32) (g1 : Nat) : va_E := .inr (1, [.int c, .ref g1])
abbrev aI (d : ClassId) (n : Nat) (f : Nat → Int32) : va_E := .inl (d, n, .inl f)
/-- the start of a contract that only reads: the cells and the classes -/
abbrev jg_Pr (D : va_G) (ws : va_W) (tys : List (ClassId × FieldType)) (av : List Value) : Array Value → State → Prop := va_Pc av (fun U => va_P D vwCl ws U.heap ∧ va_K D vwCl tys U)
/-- the start of a contract that writes -/
abbrev jg_Pw (D : va_G) (sz : Nat) (ws : va_W) (tys : List (ClassId × FieldType)) (av : List Value) : Array Value → State → Prop := va_Pc av (fun U => U.heap.size = sz ∧ va_P D vwCl ws U.heap ∧ va_K D vwCl tys U ∧ va_D (fun _ => True) ws)
theorem jg_preN {s : State} {H : Heap} {As : List Value} : PreS s H (va_Pc As (fun _ => True)) As := ⟨fun _ _ _ _ q => q, fun _ _ _ => ⟨rfl, trivial⟩⟩
theorem jg_blr {D : va_G} {ws : va_W} {tys : List (ClassId × FieldType)} {av : List Value} : FrameBlind (jg_Pr D ws tys av) := fun a U g mk q => by
  obtain ⟨q0, qP, qK⟩ := q
  exact ⟨q0, qP, va_K.moved (u := U) (U := U.calling g mk a) (Vm.Alike.refl U.vm) qK⟩
theorem jg_blw {D : va_G} {sz : Nat} {ws : va_W} {tys : List (ClassId × FieldType)} {av : List Value} : FrameBlind (jg_Pw D sz ws tys av) := fun a U g mk q => by
  obtain ⟨q0, q1, qP, qK, qD⟩ := q
  exact ⟨q0, q1, qP, va_K.moved (u := U) (U := U.calling g mk a) (Vm.Alike.refl U.vm) qK, qD⟩
/-- a receiver's call: what only reads, what needs nothing, what writes -/
theorem jg_preR {s : State} {H : Heap} {D : va_G} {ws wc : va_W} {tys tc : List (ClassId × FieldType)} {C : String} {b q0 ci : Nat} {q : vw_C} {fs : List Value} {As : List Value} (hK : va_K D vwCl tys s) (hP : va_P D vwCl ws H) (hc : vwCl[ci]? = some q) (he : ws[q0]? = some (b, .inr (ci, fs))) (hC : q.1 = C) (hPc : va_P D vwCl wc H) (hKc : va_K D vwCl tc s) : PreV s H C b (jg_Pr D wc tc (.ref b :: As)) As := by
  subst hC
  exact ⟨jg_blr, va_recv hK hP hc he, fun U hU hW => ⟨rfl, by rw [hU]; exact hPc, hKc.moved hW.alike⟩⟩
theorem jg_pre0 {s : State} {H : Heap} {D : va_G} {ws : va_W} {tys : List (ClassId × FieldType)} {C : String} {b q0 ci : Nat} {q : vw_C} {fs : List Value} {As : List Value} (hK : va_K D vwCl tys s) (hP : va_P D vwCl ws H) (hc : vwCl[ci]? = some q) (he : ws[q0]? = some (b, .inr (ci, fs))) (hC : q.1 = C) : PreV s H C b (va_Pc (.ref b :: As) (fun _ => True)) As := by
  subst hC
  exact ⟨fun _ _ _ _ q => q, va_recv hK hP hc he, fun U hU hW => ⟨rfl, trivial⟩⟩
theorem jg_preW {s : State} {H : Heap} {D : va_G} {A : Nat → Prop} {ws wc : va_W} {tys tc : List (ClassId × FieldType)} {C : String} {b q0 ci : Nat} {q : vw_C} {fs : List Value} {As : List Value} (hK : va_K D vwCl tys s) (hP : va_P D vwCl ws H) (hc : vwCl[ci]? = some q) (he : ws[q0]? = some (b, .inr (ci, fs))) (hC : q.1 = C) (hPc : va_P D vwCl wc H) (hKc : va_K D vwCl tc s) (hDc : va_D A wc) : PreV s H C b (jg_Pw D H.size wc tc (.ref b :: As)) As := by
  subst hC
  exact ⟨jg_blw, va_recv hK hP hc he, fun U hU hW => ⟨rfl, by rw [hU], by rw [hU]; exact hPc, hKc.moved hW.alike, hDc.weaken (fun _ _ _ _ => trivial)⟩⟩
theorem jg_preI {s : State} {H : Heap} {D : va_G} {A : Nat → Prop} {wc : va_W} {tc : List (ClassId × FieldType)} {As : List Value} (hPc : va_P D vwCl wc H) (hKc : va_K D vwCl tc s) (hDc : va_D A wc) : PreS s H (jg_Pw D H.size wc tc As) As :=
  ⟨jg_blw, fun U hU hW => ⟨rfl, by rw [hU], by rw [hU]; exact hPc, hKc.moved hW.alike, hDc.weaken (fun _ _ _ _ => trivial)⟩⟩
section JGW
variable {p : Program} {l : Launch} {e : Env} {R : Room} {s : State} {m : MethodId} {args : Array Value} {below : List Frame} {meth : Method} {c : Code} {H : Heap} {locs : List Loc} {cells slots : Nat} {Q : State → Prop}
/-- another word for the number on top -/
theorem jg_top {pc : Nat} {ls : Array Slot} {rest : List Value} {x y : Int32} (h : x = y) (k : W p l e R s m args below meth c H locs cells slots Q (F0 m pc ls (.int y :: rest))) : W p l e R s m args below meth c H locs cells slots Q (F0 m pc ls (.int x :: rest)) := by
  subst h
  exact k
/-- a loop that leaves the heap -/
theorem jg_loop {pc : Nat} (I : Nat → Array Slot → Prop) (μ : Nat → Nat) (hs : ∀ (x : Nat) (ls : Array Slot), I x ls → (∀ (y : Nat) (ls' : Array Slot), μ y < μ x → I y ls' → W p l e R s m args below meth c H locs cells slots Q (F0 m pc ls' [])) → W p l e R s m args below meth c H locs cells slots Q (F0 m pc ls [])) (x : Nat) (ls : Array Slot) (h : I x ls) : W p l e R s m args below meth c H locs cells slots Q (F0 m pc ls []) := by
  have key : ∀ (n x : Nat) (ls : Array Slot), μ x < n → I x ls → W p l e R s m args below meth c H locs cells slots Q (F0 m pc ls []) := by
    intro n
    induction n with
    | zero => intro x ls h; exact absurd h (Nat.not_lt_zero _)
    | succ n ih => intro x ls h hi; exact hs x ls hi (fun y ls' hy hI => ih y ls' (by omega) hI)
  exact key (μ x + 1) x ls (Nat.lt_succ_self _) h
/-- a loop that changes the heap -/
theorem jg_loopH {pc : Nat} (I : Nat → Heap → List Loc → Array Slot → Prop) (μ : Nat → Nat) (hs : ∀ (x : Nat) (H : Heap) (locs : List Loc) (ls : Array Slot), I x H locs ls → (∀ (y : Nat) (H' : Heap) (locs' : List Loc) (ls' : Array Slot), μ y < μ x → I y H' locs' ls' → W p l e R s m args below meth c H' locs' cells slots Q (F0 m pc ls' [])) → W p l e R s m args below meth c H locs cells slots Q (F0 m pc ls [])) (x : Nat) (ls : Array Slot) (h : I x H locs ls) : W p l e R s m args below meth c H locs cells slots Q (F0 m pc ls []) := by
  have key : ∀ (n x : Nat) (H : Heap) (locs : List Loc) (ls : Array Slot), μ x < n → I x H locs ls → W p l e R s m args below meth c H locs cells slots Q (F0 m pc ls []) := by
    intro n
    induction n with
    | zero => intro x H locs ls h; exact absurd h (Nat.not_lt_zero _)
    | succ n ih => intro x H locs ls h hi; exact hs x H locs ls hi (fun y H' locs' ls' hy hI => ih y H' locs' ls' (by omega) hI)
  exact key (μ x + 1) x H locs ls (Nat.lt_succ_self _) h
/-- where two ways meet -/
theorem jg_cut {pc pc2 : Nat} {ls : Array Slot} {st : List Value} (rest : List Value) (v : Int32) (tail : W p l e R s m args below meth c H locs cells slots Q (F0 m pc2 ls (.int v :: rest))) (head : W p l e R s m args below meth c H locs cells slots Q (F0 m pc2 ls (.int v :: rest)) → W p l e R s m args below meth c H locs cells slots Q (F0 m pc ls st)) : W p l e R s m args below meth c H locs cells slots Q (F0 m pc ls st) := head tail
variable {cc : ByteArray} {pc : Nat} {ls : Array Slot} {rest : List Value} {D : va_G} {cl : List vw_C} {A : Nat → Prop} {a : Nat} {tys : List (ClassId × FieldType)} {ws : va_W} {H0 : Heap}
theorem jg_iald (hexec : p.tables.exec = Jvm.exec) (hb : c.code = cc) (hK : va_K D cl tys s) (hP : va_P D cl ws H) (q0 t0 : Nat) {cA : ClassId} {n : Nat} {f : Nat → Int32} (ha : ws[q0]? = some (a, .inl (cA, n, .inl f))) (ht : tys[t0]? = some (cA, .int)) {j : Nat} (hj : j < n) (hn : n < 2 ^ 31) (hdg : decode cc pc = .ok (.iaload, 1))
    (kk : W p l e R s m args below meth c H locs cells slots Q (F0 m (pc + 1) ls (.int (f j) :: rest))) : W p l e R s m args below meth c H locs cells slots Q (F0 m pc ls (.int (nI j) :: .ref a :: rest)) := by
  refine va_iald hexec hb hK hP q0 t0 ha ht (vp_in_nI hj hn) hdg ?_
  rw [nI_clamp (by omega)]
  exact kk
theorem jg_sald (hexec : p.tables.exec = Jvm.exec) (hb : c.code = cc) (hK : va_K D cl tys s) (hP : va_P D cl ws H) (q0 t0 : Nat) {cA : ClassId} {n : Nat} {f : Nat → Int32} (ha : ws[q0]? = some (a, .inl (cA, n, .inl f))) (ht : tys[t0]? = some (cA, .short)) {j : Nat} (hj : j < n) (hn : n < 2 ^ 31) (hdg : decode cc pc = .ok (.saload, 1))
    (kk : W p l e R s m args below meth c H locs cells slots Q (F0 m (pc + 1) ls (.int (f j) :: rest))) : W p l e R s m args below meth c H locs cells slots Q (F0 m pc ls (.int (nI j) :: .ref a :: rest)) := by
  refine va_sald hexec hb hK hP q0 t0 ha ht (vp_in_nI hj hn) hdg ?_
  rw [nI_clamp (by omega)]
  exact kk
theorem jg_iast (hexec : p.tables.exec = Jvm.exec) (hb : c.code = cc) (hK : va_K D cl tys s) (hP : va_P D cl ws H) (hD : va_D A ws) (hS : va_S A H0 H locs) (q0 t0 : Nat) {cA : ClassId} {n : Nat} {f : Nat → Int32} (ha : ws[q0]? = some (a, .inl (cA, n, .inl f))) (ht : tys[t0]? = some (cA, .int)) {j : Nat} {x : Int32} (hj : j < n) (hn : n < 2 ^ 31) (hdg : decode cc pc = .ok (.iastore, 1))
    (kk : ∀ (H1 : Heap) (locs1 : List Loc), va_P D cl (ws.set q0 (a, .inl (cA, n, .inl (upd f j x)))) H1 → va_D A (ws.set q0 (a, .inl (cA, n, .inl (upd f j x)))) → va_S A H0 H1 locs1 → W p l e R s m args below meth c H1 locs1 cells slots Q (F0 m (pc + 1) ls rest)) : W p l e R s m args below meth c H locs cells slots Q (F0 m pc ls (.int x :: .int (nI j) :: .ref a :: rest)) := by
  refine va_iast hexec hb hK hP hD hS q0 t0 ha ht (vp_in_nI hj hn) hdg ?_
  rw [nI_clamp (by omega)]
  exact kk
theorem jg_sast (hexec : p.tables.exec = Jvm.exec) (hb : c.code = cc) (hK : va_K D cl tys s) (hP : va_P D cl ws H) (hD : va_D A ws) (hS : va_S A H0 H locs) (q0 t0 : Nat) {cA : ClassId} {n : Nat} {f : Nat → Int32} (ha : ws[q0]? = some (a, .inl (cA, n, .inl f))) (ht : tys[t0]? = some (cA, .short)) {j : Nat} {x : Int32} (hj : j < n) (hn : n < 2 ^ 31) (hx : vp_nar .short x = x) (hdg : decode cc pc = .ok (.sastore, 1))
    (kk : ∀ (H1 : Heap) (locs1 : List Loc), va_P D cl (ws.set q0 (a, .inl (cA, n, .inl (upd f j x)))) H1 → va_D A (ws.set q0 (a, .inl (cA, n, .inl (upd f j x)))) → va_S A H0 H1 locs1 → W p l e R s m args below meth c H1 locs1 cells slots Q (F0 m (pc + 1) ls rest)) : W p l e R s m args below meth c H locs cells slots Q (F0 m pc ls (.int x :: .int (nI j) :: .ref a :: rest)) := by
  refine va_sast hexec hb hK hP hD hS q0 t0 ha ht (vp_in_nI hj hn) hdg ?_
  rw [nI_clamp (by omega), hx]
  exact kk
theorem jg_sld (hexec : p.tables.exec = Jvm.exec) (hb : c.code = cc) {b L : Nat} {xs : Nat → Int32} (hX : va_X b L xs s H0) (hbl : b < H0.size) (hbA : ¬ A b) (hS : va_S A H0 H locs) {j : Nat} (hj : j < L) (hL : L < 2 ^ 31) (hdg : decode cc pc = .ok (.iaload, 1))
    (kk : W p l e R s m args below meth c H locs cells slots Q (F0 m (pc + 1) ls (.int (xs j) :: rest))) : W p l e R s m args below meth c H locs cells slots Q (F0 m pc ls (.int (nI j) :: .ref b :: rest)) := by
  refine va_sld hexec hb hX hbl hbA hS (vp_in_nI hj hL) hdg ?_
  rw [nI_clamp (by omega)]
  exact kk
end JGW
end
section
/-! JumpGenerator: step, isState, isMark, apply, wind; what only reads -/
theorem jg_bitT {x i : Nat} (hx : x < 2 ^ 31) (hi : i < 32) (h : ¬ (nI x >>> (nI i &&& 31)) &&& nI 1 = 0) : x.testBit i = true := Classical.not_not.mp (fun q => h ((jg_bit hx hi).mpr q))
theorem jg_bitF {x i : Nat} (hx : x < 2 ^ 31) (hi : i < 32) (h : (nI x >>> (nI i &&& 31)) &&& nI 1 = 0) : ¬ x.testBit i = true := (jg_bit hx hi).mp h
/-- the table of images is filled -/
def jg_im (f : Nat → Int32) : Prop := ∀ k, k < 17 → ∀ i, i < 16 → f (k * 16 + i) = nI (jg_i (2 ^ k) (2 ^ i))
theorem jg_seedT {s : Int32} (h : ¬ jg_qSeed s = 0) : jg_isS s := Classical.not_not.mp (fun q => h (if_neg q))
theorem jg_seedF {s : Int32} (h : jg_qSeed s = 0) : ¬ jg_isS s := fun q => by
  rw [show jg_qSeed s = 1 from if_pos q] at h
  exact absurd h (by decide)
theorem jg_markT {s : Int32} (h : ¬ jg_qMark s = 0) : jg_isM s := Classical.not_not.mp (fun q => h (if_neg q))
theorem jg_markF {s : Int32} (h : jg_qMark s = 0) : ¬ jg_isM s := fun q => by
  rw [show jg_qMark s = 1 from if_pos q] at h
  exact absurd h (by decide)
set_option maxHeartbeats 4000000 in
set_option maxRecDepth 100000 in
/-- step(x): a step -/
theorem c_X0_step (l : Launch) (dC : Nat → ClassId) (dI : Nat → Nat → Nat) (x : Nat) (h : x < 65536) : Met l yX0_step (ws_ yX0_step cX0_step 2 (some .int)) ({ frames := 0, cells := 0, slots := 0, locals := 0 }) (va_Pc [.int (nI x)] (fun _ => True)) (vp_Si (fun r => r = nI (jg_T x))) 0 0 (fun _ => False) := by
  refine Met.ofW (cc := cX0_step) (maxL := 2) (ret := (some .int)) (by decide) rfl ?_
  intro p e s m args below meth c s₁ B hml hv
  obtain ⟨rfl, -⟩ := hv
  have hx := B.exec
  have hb := B.bytes
  have hr := B.returns
  have hts := atoms_spec (ws := ws_ yX0_step cX0_step 2 (some .int)) B.pre
  have hts : ∀ w ∈ lw_all, w.before _ s = true := fun w h => hts w (List.mem_cons_of_mem _ h)
  have hown : s.vm.findClass RX0 = some m.cls := findClass_of_methodNamed B.named
  have hl := lv_entry ([.int (nI x)]) (n := 2) (Nat.le_of_ble_eq_true rfl)
  rw [lg_entry_eq]
  generalize (lg_sl ([.int (nI x)]) ++ List.replicate (2 - (lg_sl ([.int (nI x)])).length) Slot.unset).toArray = ls at hl ⊢
  have hl : lv_has ls 2 [(0, .int (nI x))] := hl
  refine lv_iload_n hx hb dX0_step_0 rfl (lv_at hl 0 rfl) ?_
  refine lv_istore_n (lv' := [(1, .int (nI x)), (0, .int (nI x))]) hx hb dX0_step_1 rfl hl (by decide) rfl (fun ls hl => ?_)
  refine lv_iload_n hx hb dX0_step_2 rfl (lv_at hl 0 rfl) ?_
  refine lv_iload_n hx hb dX0_step_3 rfl (lv_at hl 0 rfl) ?_
  refine lv_bipush (v := nI 7) hx hb dX0_step_4 (by decide +kernel) ?_
  refine lv_ishl hx hb dX0_step_6 ?_
  refine lv_ldc (v := 65535) hx hb hown (hts _ q26) dX0_step_7 ?_
  refine lv_iand hx hb dX0_step_9 ?_
  refine lv_ixor hx hb dX0_step_10 ?_
  refine jg_top (y := nI (jg_A x)) (jg_sA h) ?_
  refine lv_istore_n (lv' := [(1, .int (nI (jg_A x))), (0, .int (nI x))]) hx hb dX0_step_11 rfl hl (by decide) rfl (fun ls hl => ?_)
  refine lv_iload_n hx hb dX0_step_12 rfl (lv_at hl 0 rfl) ?_
  refine lv_iload_n hx hb dX0_step_13 rfl (lv_at hl 0 rfl) ?_
  refine lv_bipush (v := nI 9) hx hb dX0_step_14 (by decide +kernel) ?_
  refine lv_ishr hx hb dX0_step_16 ?_
  refine lv_ixor hx hb dX0_step_17 ?_
  refine jg_top (y := nI (jg_B (jg_A x))) (jg_sB (jg_A_lt x)) ?_
  refine lv_istore_n (lv' := [(1, .int (nI (jg_B (jg_A x)))), (0, .int (nI x))]) hx hb dX0_step_18 rfl hl (by decide) rfl (fun ls hl => ?_)
  refine lv_iload_n hx hb dX0_step_19 rfl (lv_at hl 0 rfl) ?_
  refine lv_iload_n hx hb dX0_step_20 rfl (lv_at hl 0 rfl) ?_
  refine lv_bipush (v := nI 8) hx hb dX0_step_21 (by decide +kernel) ?_
  refine lv_ishl hx hb dX0_step_23 ?_
  refine lv_ldc (v := 65535) hx hb hown (hts _ q26) dX0_step_24 ?_
  refine lv_iand hx hb dX0_step_26 ?_
  refine lv_ixor hx hb dX0_step_27 ?_
  refine jg_top (y := nI (jg_T x)) (jg_sC (jg_B_lt (jg_A_lt x))) ?_
  exact W.iret (v := nI (jg_T x)) hx hb hr (fun t9 ht9 hW9 => ⟨nI (jg_T x), rfl, rfl, ht9⟩) (fun q h => absurd h List.not_mem_nil) dX0_step_28
set_option maxHeartbeats 4000000 in
set_option maxRecDepth 100000 in
/-- isState(s) -/
theorem c_X0_isState (l : Launch) (dC : Nat → ClassId) (dI : Nat → Nat → Nat) (s0 : Int32) : Met l yX0_isState (ws_ yX0_isState cX0_isState 1 (some .boolean)) ({ frames := 0, cells := 0, slots := 0, locals := 0 }) (va_Pc [.int s0] (fun _ => True)) (vp_Si (fun r => r = jg_qSeed s0)) 0 0 (fun _ => False) := by
  refine Met.ofW (cc := cX0_isState) (maxL := 1) (ret := (some .boolean)) (by decide) rfl ?_
  intro p e s m args below meth c s₁ B hml hv
  obtain ⟨rfl, -⟩ := hv
  have hx := B.exec
  have hb := B.bytes
  have hr := B.returns
  have hts := atoms_spec (ws := ws_ yX0_isState cX0_isState 1 (some .boolean)) B.pre
  have hts : ∀ w ∈ lw_all, w.before _ s = true := fun w h => hts w (List.mem_cons_of_mem _ h)
  have hown : s.vm.findClass RX0 = some m.cls := findClass_of_methodNamed B.named
  have hl := lv_entry ([.int s0]) (n := 1) (Nat.le_of_ble_eq_true rfl)
  rw [lg_entry_eq]
  generalize (lg_sl ([.int s0]) ++ List.replicate (1 - (lg_sl ([.int s0])).length) Slot.unset).toArray = ls at hl ⊢
  have hl : lv_has ls 1 [(0, .int s0)] := hl
  refine lv_iload_n hx hb dX0_isState_0 rfl (lv_at hl 0 rfl) ?_
  refine lv_iconst (v := nI 1) hx hb dX0_isState_1 (by decide +kernel) ?_
  refine lv_icmp_lt (tgt := 15) hx hb dX0_isState_2 (by decide) (fun c2 => ?_) (fun c2 => ?_)
  · refine lv_iconst (v := nI 0) hx hb dX0_isState_15 (by decide +kernel) ?_
    exact W.zret (v := nI 0) hx hb hr rfl (fun t9 ht9 hW9 => ⟨nI 0, rfl, (if_neg (fun q => absurd q.1 (jg_nle c2))).symm, ht9⟩) (fun q h => absurd h List.not_mem_nil) dX0_isState_16
  · refine lv_iload_n hx hb dX0_isState_5 rfl (lv_at hl 0 rfl) ?_
    refine lv_ldc (v := 65535) hx hb hown (hts _ q26) dX0_isState_6 ?_
    refine lv_icmp_gt (tgt := 15) hx hb dX0_isState_8 (by decide) (fun c8 => ?_) (fun c8 => ?_)
    · refine lv_iconst (v := nI 0) hx hb dX0_isState_15 (by decide +kernel) ?_
      exact W.zret (v := nI 0) hx hb hr rfl (fun t9 ht9 hW9 => ⟨nI 0, rfl, (if_neg (fun q => absurd q.2 (jg_nle c8))).symm, ht9⟩) (fun q h => absurd h List.not_mem_nil) dX0_isState_16
    · refine lv_iconst (v := nI 1) hx hb dX0_isState_11 (by decide +kernel) ?_
      refine lv_goto (tgt := 16) hx hb dX0_isState_12 (by decide) ?_
      exact W.zret (v := nI 1) hx hb hr rfl (fun t9 ht9 hW9 => ⟨nI 1, rfl, (if_pos ⟨jg_ge c2, jg_ge c8⟩).symm, ht9⟩) (fun q h => absurd h List.not_mem_nil) dX0_isState_16
set_option maxHeartbeats 4000000 in
set_option maxRecDepth 100000 in
/-- isMark(m) -/
theorem c_X0_isMark (l : Launch) (dC : Nat → ClassId) (dI : Nat → Nat → Nat) (s0 : Int32) : Met l yX0_isMark (ws_ yX0_isMark cX0_isMark 1 (some .boolean)) ({ frames := 0, cells := 0, slots := 0, locals := 0 }) (va_Pc [.int s0] (fun _ => True)) (vp_Si (fun r => r = jg_qMark s0)) 0 0 (fun _ => False) := by
  refine Met.ofW (cc := cX0_isMark) (maxL := 1) (ret := (some .boolean)) (by decide) rfl ?_
  intro p e s m args below meth c s₁ B hml hv
  obtain ⟨rfl, -⟩ := hv
  have hx := B.exec
  have hb := B.bytes
  have hr := B.returns
  have hts := atoms_spec (ws := ws_ yX0_isMark cX0_isMark 1 (some .boolean)) B.pre
  have hts : ∀ w ∈ lw_all, w.before _ s = true := fun w h => hts w (List.mem_cons_of_mem _ h)
  have hown : s.vm.findClass RX0 = some m.cls := findClass_of_methodNamed B.named
  have hl := lv_entry ([.int s0]) (n := 1) (Nat.le_of_ble_eq_true rfl)
  rw [lg_entry_eq]
  generalize (lg_sl ([.int s0]) ++ List.replicate (1 - (lg_sl ([.int s0])).length) Slot.unset).toArray = ls at hl ⊢
  have hl : lv_has ls 1 [(0, .int s0)] := hl
  refine lv_iload_n hx hb dX0_isMark_0 rfl (lv_at hl 0 rfl) ?_
  refine lv_if_lt (tgt := 14) hx hb dX0_isMark_1 (by decide) (fun c1 => ?_) (fun c1 => ?_)
  · refine lv_iconst (v := nI 0) hx hb dX0_isMark_14 (by decide +kernel) ?_
    exact W.zret (v := nI 0) hx hb hr rfl (fun t9 ht9 hW9 => ⟨nI 0, rfl, (if_neg (fun q => absurd q.1 (jg_nle c1))).symm, ht9⟩) (fun q h => absurd h List.not_mem_nil) dX0_isMark_15
  · refine lv_iload_n hx hb dX0_isMark_4 rfl (lv_at hl 0 rfl) ?_
    refine lv_bipush (v := nI 8) hx hb dX0_isMark_5 (by decide +kernel) ?_
    refine lv_icmp_ge (tgt := 14) hx hb dX0_isMark_7 (by decide) (fun c7 => ?_) (fun c7 => ?_)
    · refine lv_iconst (v := nI 0) hx hb dX0_isMark_14 (by decide +kernel) ?_
      exact W.zret (v := nI 0) hx hb hr rfl (fun t9 ht9 hW9 => ⟨nI 0, rfl, (if_neg (fun q => absurd q.2 (jg_nlt c7))).symm, ht9⟩) (fun q h => absurd h List.not_mem_nil) dX0_isMark_15
    · refine lv_iconst (v := nI 1) hx hb dX0_isMark_10 (by decide +kernel) ?_
      refine lv_goto (tgt := 15) hx hb dX0_isMark_11 (by decide) ?_
      exact W.zret (v := nI 1) hx hb hr rfl (fun t9 ht9 hW9 => ⟨nI 1, rfl, (if_pos ⟨jg_ge c1, jg_gt c7⟩).symm, ht9⟩) (fun q h => absurd h List.not_mem_nil) dX0_isMark_15
set_option maxHeartbeats 4000000 in
set_option maxRecDepth 100000 in
/-- apply(k, x): the exclusive sum of what the bits become, by row k -/
theorem c_X0_apply (l : Launch) (dC : Nat → ClassId) (dI : Nat → Nat → Nat) (h0 h1 h2 h3 h4 : Nat) (d2 : ClassId) (cu : Int32) (f : Nat → Int32) (g : Nat → Nat) (k x : Nat) (hk : k ≤ 16) (hx0 : x < 65536) (hf : ∀ i, i < 16 → f (k * 16 + i) = nI (g i)) : Met l yX0_apply (ws_ yX0_apply cX0_apply 5 (some .int)) ({ frames := 0, cells := 0, slots := 0, locals := 0 }) (jg_Pr (dC, dI) [(h0, oX cu h1 h2 h3 h4), (h2, aI d2 272 f)] [(d2, .int)] [.ref h0, .int (nI k), .int (nI x)]) (vp_Si (fun r => r = nI (jg_ap g x 16))) 0 0 (fun _ => False) := by
  refine Met.ofW (cc := cX0_apply) (maxL := 5) (ret := (some .int)) (by decide) rfl ?_
  intro p e s m args below meth c s₁ B hml hv
  obtain ⟨rfl, hP, hK⟩ := hv
  have hx := B.exec
  have hb := B.bytes
  have hr := B.returns
  have hts := atoms_spec (ws := ws_ yX0_apply cX0_apply 5 (some .int)) B.pre
  have hts : ∀ w ∈ lw_all, w.before _ s = true := fun w h => hts w (List.mem_cons_of_mem _ h)
  have hown : s.vm.findClass RX0 = some m.cls := findClass_of_methodNamed B.named
  have hl := lv_entry ([.ref h0, .int (nI k), .int (nI x)]) (n := 5) (Nat.le_of_ble_eq_true rfl)
  rw [lg_entry_eq]
  generalize (lg_sl ([.ref h0, .int (nI k), .int (nI x)]) ++ List.replicate (5 - (lg_sl ([.ref h0, .int (nI k), .int (nI x)])).length) Slot.unset).toArray = ls at hl ⊢
  have hl : lv_has ls 5 [(0, .ref h0), (1, .int (nI k)), (2, .int (nI x))] := hl
  refine lv_iconst (v := nI 0) hx hb dX0_apply_0 (by decide +kernel) ?_
  refine lv_istore_n (lv' := [(3, .int (nI 0)), (0, .ref h0), (1, .int (nI k)), (2, .int (nI x))]) hx hb dX0_apply_1 rfl hl (by decide) rfl (fun ls hl => ?_)
  refine lv_iconst (v := nI 0) hx hb dX0_apply_2 (by decide +kernel) ?_
  refine lv_istore (lv' := [(4, .int (nI 0)), (3, .int (nI 0)), (0, .ref h0), (1, .int (nI k)), (2, .int (nI x))]) hx hb dX0_apply_3 hl (by decide) rfl (fun ls hl => ?_)
  refine jg_loop (fun i ls => i ≤ 16 ∧ lv_has ls 5 [(0, .ref h0), (1, .int (nI k)), (2, .int (nI x)), (3, .int (nI (jg_ap g x i))), (4, .int (nI i))]) (fun i => 16 - i) ?_ 0 ls ⟨by omega, lv_sub hl [2, 3, 4, 1, 0] rfl⟩
  intro i ls hI ih
  obtain ⟨hi, hl⟩ := hI
  refine lv_iload hx hb dX0_apply_5 (lv_at hl 4 rfl) ?_
  refine lv_bipush (v := nI 16) hx hb dX0_apply_7 (by decide +kernel) ?_
  refine lv_icmp_ge (tgt := 42) hx hb dX0_apply_9 (by decide) (fun c9 => ?_) (fun c9 => ?_)
  · obtain rfl : i = 16 := by have q := (nI_leI (by omega) (by omega)).mp c9; omega
    refine lv_iload_n hx hb dX0_apply_42 rfl (lv_at hl 3 rfl) ?_
    exact W.iret (v := nI (jg_ap g x 16)) hx hb hr (fun t9 ht9 hW9 => ⟨nI (jg_ap g x 16), rfl, rfl, ht9⟩) (fun q h => absurd h List.not_mem_nil) dX0_apply_43
  · have hi9 : i < 16 := Nat.lt_of_not_le (fun q => c9 ((nI_leI (by omega) (by omega)).mpr q))
    refine lv_iload_n hx hb dX0_apply_12 rfl (lv_at hl 2 rfl) ?_
    refine lv_iload hx hb dX0_apply_13 (lv_at hl 4 rfl) ?_
    refine lv_ishr hx hb dX0_apply_15 ?_
    refine lv_iconst (v := nI 1) hx hb dX0_apply_16 (by decide +kernel) ?_
    refine lv_iand hx hb dX0_apply_17 ?_
    refine lv_if_eq (tgt := 36) hx hb dX0_apply_18 (by decide) (fun c18 => ?_) (fun c18 => ?_)
    · refine lv_iinc (v := nI (i + 1)) (lv' := [(4, .int (nI (i + 1))), (0, .ref h0), (1, .int (nI k)), (2, .int (nI x)), (3, .int (nI (jg_ap g x i)))]) hx hb dX0_apply_36 hl (k := 4) rfl (nI_1 i) (by decide) rfl (fun ls hl => ?_)
      refine lv_goto (tgt := 5) hx hb dX0_apply_39 (by decide) ?_
      exact ih (i + 1) ls (by omega) ⟨by omega, by rw [jg_ap_s, if_neg (jg_bitF (by omega) (by omega) c18)]; exact lv_sub hl [1, 2, 3, 4, 0] rfl⟩
    · refine lv_iload_n hx hb dX0_apply_21 rfl (lv_at hl 3 rfl) ?_
      refine lv_aload_n hx hb dX0_apply_22 rfl (lv_at hl 0 rfl) ?_
      refine va_get (D := (dC, dI)) (ci := 0) (v := .ref h2) (C := RX0) (T := TX0) (N := 5) hx hb hts in_X0 hown hK hP 0 rfl rfl 2 (by decide) (hts _ q33) (fun _ h9 => h9) rfl dX0_apply_23 ?_
      refine lv_iload_n hx hb dX0_apply_26 rfl (lv_at hl 1 rfl) ?_
      refine lv_bipush (v := nI 16) hx hb dX0_apply_27 (by decide +kernel) ?_
      refine lv_imul hx hb dX0_apply_29 ?_
      refine lv_iload hx hb dX0_apply_30 (lv_at hl 4 rfl) ?_
      refine lv_iadd hx hb dX0_apply_32 ?_
      refine jg_top (y := nI (k * 16 + i)) (by rw [pk_mul, nI_add]) ?_
      refine jg_iald (j := k * 16 + i) hx hb hK hP 1 0 rfl rfl (by omega) (by decide) dX0_apply_33 ?_
      refine jg_top (y := nI (g i)) (hf i hi9) ?_
      refine lv_ixor hx hb dX0_apply_34 ?_
      refine jg_top (y := nI (jg_ap g x (i + 1))) (by rw [jg_xor, jg_ap_s, if_pos (jg_bitT (by omega) (by omega) c18)]) ?_
      refine lv_istore_n (lv' := [(3, .int (nI (jg_ap g x (i + 1)))), (0, .ref h0), (1, .int (nI k)), (2, .int (nI x)), (4, .int (nI i))]) hx hb dX0_apply_35 rfl hl (by decide) rfl (fun ls hl => ?_)
      refine lv_iinc (v := nI (i + 1)) (lv' := [(4, .int (nI (i + 1))), (3, .int (nI (jg_ap g x (i + 1)))), (0, .ref h0), (1, .int (nI k)), (2, .int (nI x))]) hx hb dX0_apply_36 hl (k := 4) rfl (nI_1 i) (by decide) rfl (fun ls hl => ?_)
      refine lv_goto (tgt := 5) hx hb dX0_apply_39 (by decide) ?_
      exact ih (i + 1) ls (by omega) ⟨by omega, lv_sub hl [2, 3, 4, 1, 0] rfl⟩
set_option maxHeartbeats 4000000 in
set_option maxRecDepth 100000 in
/-- wind(x, n): n steps, forwards or backwards -/
theorem c_X0_wind (l : Launch) (dC : Nat → ClassId) (dI : Nat → Nat → Nat) (h0 h1 h2 h3 h4 : Nat) (d2 : ClassId) (cu : Int32) (f : Nat → Int32) (hf : jg_im f) (x : Nat) (hx0 : x < 65536) (n : Int32) : Met l yX0_wind (ws_ yX0_wind cX0_wind 6 (some .int)) ({ frames := 1, cells := 0, slots := 0, locals := 24 }) (jg_Pr (dC, dI) [(h0, oX cu h1 h2 h3 h4), (h2, aI d2 272 f)] [(d2, .int)] [.ref h0, .int (nI x), .int n]) (vp_Si (fun r => r = nI (jg_w x n.toInt))) 0 0 (fun _ => False) := by
  refine Met.ofW (cc := cX0_wind) (maxL := 6) (ret := (some .int)) (by decide) rfl ?_
  intro p e s m args below meth c s₁ B hml hv
  obtain ⟨rfl, hP, hK⟩ := hv
  have hx := B.exec
  have hb := B.bytes
  have hr := B.returns
  have hts := atoms_spec (ws := ws_ yX0_wind cX0_wind 6 (some .int)) B.pre
  have hts : ∀ w ∈ lw_all, w.before _ s = true := fun w h => hts w (List.mem_cons_of_mem _ h)
  have hown : s.vm.findClass RX0 = some m.cls := findClass_of_methodNamed B.named
  have hl := lv_entry ([.ref h0, .int (nI x), .int n]) (n := 6) (Nat.le_of_ble_eq_true rfl)
  rw [lg_entry_eq]
  generalize (lg_sl ([.ref h0, .int (nI x), .int n]) ++ List.replicate (6 - (lg_sl ([.ref h0, .int (nI x), .int n])).length) Slot.unset).toArray = ls at hl ⊢
  have hl : lv_has ls 6 [(0, .ref h0), (1, .int (nI x)), (2, .int n)] := hl
  obtain ⟨L, hL⟩ : ∃ L : Nat, L = (n.toInt % 65535).toNat := ⟨_, rfl⟩
  have hLl : L < 65535 := by omega
  refine lv_iload_n hx hb dX0_wind_0 rfl (lv_at hl 2 rfl) ?_
  refine lv_ldc (v := 65535) hx hb hown (hts _ q26) dX0_wind_1 ?_
  refine lv_irem hx hb dX0_wind_3 (by decide) ?_
  refine lv_istore_n (lv' := [(3, .int (n - n / 65535 * 65535)), (0, .ref h0), (1, .int (nI x)), (2, .int n)]) hx hb dX0_wind_4 rfl hl (by decide) rfl (fun ls hl => ?_)
  refine lv_iload_n hx hb dX0_wind_5 rfl (lv_at hl 0 rfl) ?_
  refine jg_cut (pc2 := 17) [] (nI L) ?_ (fun hk => ?_)
  · refine lv_istore_n (lv' := [(3, .int (nI L)), (0, .ref h0), (1, .int (nI x)), (2, .int n)]) hx hb dX0_wind_17 rfl hl (by decide) rfl (fun ls hl => ?_)
    refine lv_iload_n hx hb dX0_wind_18 rfl (lv_at hl 2 rfl) ?_
    refine lv_istore (lv' := [(4, .int (nI x)), (3, .int (nI L)), (0, .ref h0), (1, .int (nI x)), (2, .int n)]) hx hb dX0_wind_19 hl (by decide) rfl (fun ls hl => ?_)
    refine lv_iconst (v := nI 0) hx hb dX0_wind_21 (by decide +kernel) ?_
    refine lv_istore (lv' := [(5, .int (nI 0)), (4, .int (nI x)), (3, .int (nI L)), (0, .ref h0), (1, .int (nI x)), (2, .int n)]) hx hb dX0_wind_22 hl (by decide) rfl (fun ls hl => ?_)
    refine jg_loop (fun k ls => k ≤ 16 ∧ lv_has ls 6 [(0, .ref h0), (1, .int (nI x)), (2, .int n), (3, .int (nI L)), (4, .int (nI (jg_wd L x k))), (5, .int (nI k))]) (fun k => 16 - k) ?_ 0 ls ⟨by omega, lv_sub hl [3, 4, 5, 2, 1, 0] rfl⟩
    intro k ls hI ih
    obtain ⟨hi, hl⟩ := hI
    refine lv_iload hx hb dX0_wind_24 (lv_at hl 5 rfl) ?_
    refine lv_bipush (v := nI 16) hx hb dX0_wind_26 (by decide +kernel) ?_
    refine lv_icmp_ge (tgt := 56) hx hb dX0_wind_28 (by decide) (fun c28 => ?_) (fun c28 => ?_)
    · obtain rfl : k = 16 := by have q := (nI_leI (by omega) (by omega)).mp c28; omega
      refine lv_iload hx hb dX0_wind_56 (lv_at hl 4 rfl) ?_
      exact W.iret (v := nI (jg_wd L x 16)) hx hb hr (fun t9 ht9 hW9 => ⟨nI (jg_wd L x 16), rfl, by rw [jg_wd_eq, Nat.mod_eq_of_lt (by omega), hL]; rfl, ht9⟩) (fun q h => absurd h List.not_mem_nil) dX0_wind_58
    · have hi9 : k < 16 := Nat.lt_of_not_le (fun q => c28 ((nI_leI (by omega) (by omega)).mpr q))
      have hy : jg_wd L x k < 65536 := by rw [jg_wd_eq]; exact jg_i_lt hx0
      refine lv_iload_n hx hb dX0_wind_31 rfl (lv_at hl 3 rfl) ?_
      refine lv_iload hx hb dX0_wind_32 (lv_at hl 5 rfl) ?_
      refine lv_ishr hx hb dX0_wind_34 ?_
      refine lv_iconst (v := nI 1) hx hb dX0_wind_35 (by decide +kernel) ?_
      refine lv_iand hx hb dX0_wind_36 ?_
      refine lv_if_eq (tgt := 50) hx hb dX0_wind_37 (by decide) (fun c37 => ?_) (fun c37 => ?_)
      · refine lv_iinc (v := nI (k + 1)) (lv' := [(5, .int (nI (k + 1))), (0, .ref h0), (1, .int (nI x)), (2, .int n), (3, .int (nI L)), (4, .int (nI (jg_wd L x k)))]) hx hb dX0_wind_50 hl (k := 5) rfl (nI_1 k) (by decide) rfl (fun ls hl => ?_)
        refine lv_goto (tgt := 24) hx hb dX0_wind_53 (by decide) ?_
        exact ih (k + 1) ls (by omega) ⟨by omega, by rw [jg_wd_s, if_neg (jg_bitF (by omega) (by omega) c37)]; exact lv_sub hl [1, 2, 3, 4, 5, 0] rfl⟩
      · refine lv_aload_n hx hb dX0_wind_40 rfl (lv_at hl 0 rfl) ?_
        refine lv_iload hx hb dX0_wind_41 (lv_at hl 5 rfl) ?_
        refine lv_iload hx hb dX0_wind_43 (lv_at hl 4 rfl) ?_
        refine vp_callSi (va_Run.run (va_runV (As := [.int (nI k), .int (nI (jg_wd L x k))]) (rest := []) ⟨hx, hb, hml, hown, hts⟩ (c_X0_apply l dC dI h0 h1 h2 h3 h4 d2 cu f (fun i => jg_i (2 ^ k) (2 ^ i)) k (jg_wd L x k) (by omega) hy (fun i hi => hf k (by omega) i hi)) (cwV 2 hts (lw_V q27 q29 qs0 q13 q30) rfl rfl rfl (by decide +kernel) ⟨Nat.le_of_ble_eq_true rfl, Nat.le_of_ble_eq_true rfl⟩) (jg_preR (ci := 0) (q0 := 0) hK hP rfl rfl rfl (hP.sub [0, 1] rfl) (hK.sub [0] rfl)) rfl rfl hl.1 rfl (lv_room (Nat.le_of_ble_eq_true rfl)) dX0_wind_45 ⟨Nat.le_of_ble_eq_true rfl, Nat.le_of_ble_eq_true rfl⟩)) (fun r1 (e_r1 : r1 = nI (jg_ap (fun i => jg_i (2 ^ k) (2 ^ i)) (jg_wd L x k) 16)) => ?_)
        subst e_r1
        refine jg_top (y := nI (jg_wd L x (k + 1))) (by rw [jg_ap_eq _ (2 ^ k) (fun _ _ => rfl) hy, jg_wd_s, if_pos (jg_bitT (by omega) (by omega) c37)]) ?_
        refine lv_istore (lv' := [(4, .int (nI (jg_wd L x (k + 1)))), (0, .ref h0), (1, .int (nI x)), (2, .int n), (3, .int (nI L)), (5, .int (nI k))]) hx hb dX0_wind_48 hl (by decide) rfl (fun ls hl => ?_)
        refine lv_iinc (v := nI (k + 1)) (lv' := [(5, .int (nI (k + 1))), (4, .int (nI (jg_wd L x (k + 1)))), (0, .ref h0), (1, .int (nI x)), (2, .int n), (3, .int (nI L))]) hx hb dX0_wind_50 hl (k := 5) rfl (nI_1 k) (by decide) rfl (fun ls hl => ?_)
        refine lv_goto (tgt := 24) hx hb dX0_wind_53 (by decide) ?_
        exact ih (k + 1) ls (by omega) ⟨by omega, lv_sub hl [2, 3, 4, 5, 1, 0] rfl⟩
  · refine lv_if_ge (tgt := 16) hx hb dX0_wind_6 (by decide) (fun c6 => ?_) (fun c6 => ?_)
    · refine lv_iload_n hx hb dX0_wind_16 rfl (lv_at hl 0 rfl) ?_
      refine jg_top (y := nI L) (by rw [hL]; exact jg_rem_hi c6) ?_
      exact hk
    · refine lv_iload_n hx hb dX0_wind_9 rfl (lv_at hl 0 rfl) ?_
      refine lv_ldc (v := 65535) hx hb hown (hts _ q26) dX0_wind_10 ?_
      refine lv_iadd hx hb dX0_wind_12 ?_
      refine jg_top (y := nI L) (by rw [hL]; exact jg_rem_lo c6) ?_
      refine lv_goto (tgt := 17) hx hb dX0_wind_13 (by decide) ?_
      exact hk
end
section
/-! JumpGenerator: placeOf, and the public methods that only read -/
set_option maxHeartbeats 4000000 in
set_option maxRecDepth 100000 in
/-- placeOf(x): the place of x among those noted, or where it would be -/
theorem c_X0_placeOf (l : Launch) (dC : Nat → ClassId) (dI : Nat → Nat → Nat) (h0 h1 h2 h3 h4 : Nat) (d3 : ClassId) (cu : Int32) (ks : Nat → Int32) (x : Nat) : Met l yX0_placeOf (ws_ yX0_placeOf cX0_placeOf 4 (some .int)) ({ frames := 0, cells := 0, slots := 0, locals := 0 }) (jg_Pr (dC, dI) [(h0, oX cu h1 h2 h3 h4), (h3, aI d3 1024 ks)] [(d3, .int)] [.ref h0, .int (nI x)]) (vp_Si (fun r => ∃ h : Nat, h < 1024 ∧ r = nI h ∧ jg_pl ks x h)) 0 0 (fun _ => False) := by
  refine Met.ofW (cc := cX0_placeOf) (maxL := 4) (ret := (some .int)) (by decide) rfl ?_
  intro p e s m args below meth c s₁ B hml hv
  obtain ⟨rfl, hP, hK⟩ := hv
  have hx := B.exec
  have hb := B.bytes
  have hr := B.returns
  have hts := atoms_spec (ws := ws_ yX0_placeOf cX0_placeOf 4 (some .int)) B.pre
  have hts : ∀ w ∈ lw_all, w.before _ s = true := fun w h => hts w (List.mem_cons_of_mem _ h)
  have hown : s.vm.findClass RX0 = some m.cls := findClass_of_methodNamed B.named
  have hl := lv_entry ([.ref h0, .int (nI x)]) (n := 4) (Nat.le_of_ble_eq_true rfl)
  rw [lg_entry_eq]
  generalize (lg_sl ([.ref h0, .int (nI x)]) ++ List.replicate (4 - (lg_sl ([.ref h0, .int (nI x)])).length) Slot.unset).toArray = ls at hl ⊢
  have hl : lv_has ls 4 [(0, .ref h0), (1, .int (nI x))] := hl
  refine lv_iload_n hx hb dX0_placeOf_0 rfl (lv_at hl 1 rfl) ?_
  refine lv_ldc (v := 40503) hx hb hown (hts _ q105) dX0_placeOf_1 ?_
  refine lv_imul hx hb dX0_placeOf_3 ?_
  refine lv_bipush (v := nI 6) hx hb dX0_placeOf_4 (by decide +kernel) ?_
  refine lv_ishr hx hb dX0_placeOf_6 ?_
  refine lv_sipush (v := nI 1023) hx hb dX0_placeOf_7 (by decide +kernel) ?_
  refine lv_iand hx hb dX0_placeOf_10 ?_
  refine jg_top (y := nI (jg_hs x)) (jg_hs_spec x).1 ?_
  refine lv_istore_n (lv' := [(2, .int (nI (jg_hs x))), (0, .ref h0), (1, .int (nI x))]) hx hb dX0_placeOf_11 rfl hl (by decide) rfl (fun ls hl => ?_)
  refine lv_iconst (v := nI 0) hx hb dX0_placeOf_12 (by decide +kernel) ?_
  refine lv_istore_n (lv' := [(3, .int (nI 0)), (2, .int (nI (jg_hs x))), (0, .ref h0), (1, .int (nI x))]) hx hb dX0_placeOf_13 rfl hl (by decide) rfl (fun ls hl => ?_)
  refine jg_loop (fun t ls => (t ≤ 1024 ∧ ∀ u, u < t → jg_at ks x u ≠ 0 ∧ jg_at ks x u ≠ nI x) ∧ lv_has ls 4 [(0, .ref h0), (1, .int (nI x)), (2, .int (nI ((jg_hs x + t) % 1024))), (3, .int (nI t))]) (fun t => 1024 - t) ?_ 0 ls ⟨⟨by omega, fun u hu => absurd hu (Nat.not_lt_zero _)⟩, by rw [Nat.add_zero, Nat.mod_eq_of_lt (jg_hs_spec x).2]; exact lv_sub hl [2, 3, 1, 0] rfl⟩
  intro t ls hI ih
  obtain ⟨⟨hi, hu⟩, hl⟩ := hI
  have hm : (jg_hs x + t) % 1024 < 1024 := Nat.mod_lt _ (by omega)
  refine lv_iload_n hx hb dX0_placeOf_14 rfl (lv_at hl 3 rfl) ?_
  refine lv_sipush (v := nI 1024) hx hb dX0_placeOf_15 (by decide +kernel) ?_
  refine lv_icmp_ge (tgt := 54) hx hb dX0_placeOf_18 (by decide) (fun c18 => ?_) (fun c18 => ?_)
  · have q := (nI_leI (by omega) (by omega)).mp c18
    refine lv_iload_n hx hb dX0_placeOf_54 rfl (lv_at hl 2 rfl) ?_
    exact W.iret (v := nI ((jg_hs x + t) % 1024)) hx hb hr (fun t9 ht9 hW9 => ⟨nI ((jg_hs x + t) % 1024), rfl, ⟨_, hm, rfl, t, hi, rfl, hu, Or.inl (by omega)⟩, ht9⟩) (fun q h => absurd h List.not_mem_nil) dX0_placeOf_55
  · have hi9 : t < 1024 := Nat.lt_of_not_le (fun q => c18 ((nI_leI (by omega) (by omega)).mpr q))
    refine lv_aload_n hx hb dX0_placeOf_21 rfl (lv_at hl 0 rfl) ?_
    refine va_get (D := (dC, dI)) (ci := 0) (v := .ref h3) (C := RX0) (T := TX0) (N := 5) hx hb hts in_X0 hown hK hP 0 rfl rfl 3 (by decide) (hts _ q34) (fun _ h9 => h9) rfl dX0_placeOf_22 ?_
    refine lv_iload_n hx hb dX0_placeOf_25 rfl (lv_at hl 2 rfl) ?_
    refine jg_iald (j := (jg_hs x + t) % 1024) hx hb hK hP 1 0 rfl rfl hm (by decide) dX0_placeOf_26 ?_
    refine lv_if_eq (tgt := 54) hx hb dX0_placeOf_27 (by decide) (fun c27 => ?_) (fun c27 => ?_)
    · refine lv_iload_n hx hb dX0_placeOf_54 rfl (lv_at hl 2 rfl) ?_
      exact W.iret (v := nI ((jg_hs x + t) % 1024)) hx hb hr (fun t9 ht9 hW9 => ⟨nI ((jg_hs x + t) % 1024), rfl, ⟨_, hm, rfl, t, hi, rfl, hu, Or.inr (Or.inl c27)⟩, ht9⟩) (fun q h => absurd h List.not_mem_nil) dX0_placeOf_55
    · refine lv_aload_n hx hb dX0_placeOf_30 rfl (lv_at hl 0 rfl) ?_
      refine va_get (D := (dC, dI)) (ci := 0) (v := .ref h3) (C := RX0) (T := TX0) (N := 5) hx hb hts in_X0 hown hK hP 0 rfl rfl 3 (by decide) (hts _ q34) (fun _ h9 => h9) rfl dX0_placeOf_31 ?_
      refine lv_iload_n hx hb dX0_placeOf_34 rfl (lv_at hl 2 rfl) ?_
      refine jg_iald (j := (jg_hs x + t) % 1024) hx hb hK hP 1 0 rfl rfl hm (by decide) dX0_placeOf_35 ?_
      refine lv_iload_n hx hb dX0_placeOf_36 rfl (lv_at hl 1 rfl) ?_
      refine lv_icmp_eq (tgt := 54) hx hb dX0_placeOf_37 (by decide) (fun c37 => ?_) (fun c37 => ?_)
      · refine lv_iload_n hx hb dX0_placeOf_54 rfl (lv_at hl 2 rfl) ?_
        exact W.iret (v := nI ((jg_hs x + t) % 1024)) hx hb hr (fun t9 ht9 hW9 => ⟨nI ((jg_hs x + t) % 1024), rfl, ⟨_, hm, rfl, t, hi, rfl, hu, Or.inr (Or.inr c37)⟩, ht9⟩) (fun q h => absurd h List.not_mem_nil) dX0_placeOf_55
      · refine lv_iload_n hx hb dX0_placeOf_40 rfl (lv_at hl 2 rfl) ?_
        refine lv_iconst (v := nI 1) hx hb dX0_placeOf_41 (by decide +kernel) ?_
        refine lv_iadd hx hb dX0_placeOf_42 ?_
        refine lv_sipush (v := nI 1023) hx hb dX0_placeOf_43 (by decide +kernel) ?_
        refine lv_iand hx hb dX0_placeOf_46 ?_
        refine jg_top (y := nI ((jg_hs x + (t + 1)) % 1024)) (by rw [jg_wrap hm]; congr 1; omega) ?_
        refine lv_istore_n (lv' := [(2, .int (nI ((jg_hs x + (t + 1)) % 1024))), (0, .ref h0), (1, .int (nI x)), (3, .int (nI t))]) hx hb dX0_placeOf_47 rfl hl (by decide) rfl (fun ls hl => ?_)
        refine lv_iinc (v := nI (t + 1)) (lv' := [(3, .int (nI (t + 1))), (2, .int (nI ((jg_hs x + (t + 1)) % 1024))), (0, .ref h0), (1, .int (nI x))]) hx hb dX0_placeOf_48 hl (k := 3) rfl (nI_1 t) (by decide) rfl (fun ls hl => ?_)
        refine lv_goto (tgt := 14) hx hb dX0_placeOf_51 (by decide) ?_
        exact ih (t + 1) ls (by omega) ⟨⟨by omega, fun u hq => by rcases Nat.lt_or_ge u t with q | q; exact hu u q; rw [show u = t by omega]; exact ⟨c27, c37⟩⟩, lv_sub hl [2, 3, 1, 0] rfl⟩
set_option maxHeartbeats 4000000 in
set_option maxRecDepth 100000 in
/-- state() -/
theorem c_X0_state (l : Launch) (dC : Nat → ClassId) (dI : Nat → Nat → Nat) (h0 h1 h2 h3 h4 : Nat) (cu : Int32) : Met l yX0_state (ws_ yX0_state cX0_state 1 (some .int)) ({ frames := 0, cells := 0, slots := 0, locals := 0 }) (jg_Pr (dC, dI) [(h0, oX cu h1 h2 h3 h4)] [] [.ref h0]) (vp_Si (fun r => r = cu)) 0 0 (fun _ => False) := by
  refine Met.ofW (cc := cX0_state) (maxL := 1) (ret := (some .int)) (by decide) rfl ?_
  intro p e s m args below meth c s₁ B hml hv
  obtain ⟨rfl, hP, hK⟩ := hv
  have hx := B.exec
  have hb := B.bytes
  have hr := B.returns
  have hts := atoms_spec (ws := ws_ yX0_state cX0_state 1 (some .int)) B.pre
  have hts : ∀ w ∈ lw_all, w.before _ s = true := fun w h => hts w (List.mem_cons_of_mem _ h)
  have hown : s.vm.findClass RX0 = some m.cls := findClass_of_methodNamed B.named
  have hl := lv_entry ([.ref h0]) (n := 1) (Nat.le_of_ble_eq_true rfl)
  rw [lg_entry_eq]
  generalize (lg_sl ([.ref h0]) ++ List.replicate (1 - (lg_sl ([.ref h0])).length) Slot.unset).toArray = ls at hl ⊢
  have hl : lv_has ls 1 [(0, .ref h0)] := hl
  refine lv_aload_n hx hb dX0_state_0 rfl (lv_at hl 0 rfl) ?_
  refine va_get (D := (dC, dI)) (ci := 0) (v := .int cu) (C := RX0) (T := TX0) (N := 5) hx hb hts in_X0 hown hK hP 0 rfl rfl 0 (by decide) (hts _ q31) (fun _ h9 => h9) rfl dX0_state_1 ?_
  exact W.iret (v := cu) hx hb hr (fun t9 ht9 hW9 => ⟨cu, rfl, rfl, ht9⟩) (fun q h => absurd h List.not_mem_nil) dX0_state_4
set_option maxHeartbeats 4000000 in
set_option maxRecDepth 100000 in
/-- peek(n) -/
theorem c_X0_peek (l : Launch) (dC : Nat → ClassId) (dI : Nat → Nat → Nat) (h0 h1 h2 h3 h4 : Nat) (d2 : ClassId) (x : Nat) (hx0 : x < 65536) (f : Nat → Int32) (hf : jg_im f) (n : Int32) : Met l yX0_peek (ws_ yX0_peek cX0_peek 2 (some .int)) ({ frames := 2, cells := 0, slots := 0, locals := 49 }) (jg_Pr (dC, dI) [(h0, oX (nI x) h1 h2 h3 h4), (h2, aI d2 272 f)] [(d2, .int)] [.ref h0, .int n]) (vp_Si (fun r => r = jg_qJump x n)) 0 0 (fun _ => False) := by
  refine Met.ofW (cc := cX0_peek) (maxL := 2) (ret := (some .int)) (by decide) rfl ?_
  intro p e s m args below meth c s₁ B hml hv
  obtain ⟨rfl, hP, hK⟩ := hv
  have hx := B.exec
  have hb := B.bytes
  have hr := B.returns
  have hts := atoms_spec (ws := ws_ yX0_peek cX0_peek 2 (some .int)) B.pre
  have hts : ∀ w ∈ lw_all, w.before _ s = true := fun w h => hts w (List.mem_cons_of_mem _ h)
  have hown : s.vm.findClass RX0 = some m.cls := findClass_of_methodNamed B.named
  have hl := lv_entry ([.ref h0, .int n]) (n := 2) (Nat.le_of_ble_eq_true rfl)
  rw [lg_entry_eq]
  generalize (lg_sl ([.ref h0, .int n]) ++ List.replicate (2 - (lg_sl ([.ref h0, .int n])).length) Slot.unset).toArray = ls at hl ⊢
  have hl : lv_has ls 2 [(0, .ref h0), (1, .int n)] := hl
  refine lv_iload_n hx hb dX0_peek_0 rfl (lv_at hl 1 rfl) ?_
  refine lv_ldc (v := -100000) hx hb hown (hts _ q68) dX0_peek_1 ?_
  refine lv_icmp_lt (tgt := 12) hx hb dX0_peek_3 (by decide) (fun c3 => ?_) (fun c3 => ?_)
  · refine lv_iconst (v := -1) hx hb dX0_peek_12 (by decide +kernel) ?_
    refine lv_goto (tgt := 25) hx hb dX0_peek_13 (by decide) ?_
    exact W.iret (v := (-1)) hx hb hr (fun t9 ht9 hW9 => ⟨(-1), rfl, (if_neg (fun q => absurd q.1 (jg_nle c3))).symm, ht9⟩) (fun q h => absurd h List.not_mem_nil) dX0_peek_25
  · refine lv_iload_n hx hb dX0_peek_6 rfl (lv_at hl 1 rfl) ?_
    refine lv_ldc (v := 100000) hx hb hown (hts _ q69) dX0_peek_7 ?_
    refine lv_icmp_le (tgt := 16) hx hb dX0_peek_9 (by decide) (fun c9 => ?_) (fun c9 => ?_)
    · refine lv_aload_n hx hb dX0_peek_16 rfl (lv_at hl 0 rfl) ?_
      refine lv_aload_n hx hb dX0_peek_17 rfl (lv_at hl 0 rfl) ?_
      refine va_get (D := (dC, dI)) (ci := 0) (v := .int (nI x)) (C := RX0) (T := TX0) (N := 5) hx hb hts in_X0 hown hK hP 0 rfl rfl 0 (by decide) (hts _ q31) (fun _ h9 => h9) rfl dX0_peek_18 ?_
      refine lv_iload_n hx hb dX0_peek_21 rfl (lv_at hl 1 rfl) ?_
      refine vp_callSi (va_Run.run (va_runV (As := [.int (nI x), .int n]) (rest := []) ⟨hx, hb, hml, hown, hts⟩ (c_X0_wind l dC dI h0 h1 h2 h3 h4 d2 (nI x) f hf x hx0 n) (cwV 2 hts (lw_V q70 q72 qs1 q13 q73) rfl rfl rfl (by decide +kernel) ⟨Nat.le_of_ble_eq_true rfl, Nat.le_of_ble_eq_true rfl⟩) (jg_preR (ci := 0) (q0 := 0) hK hP rfl rfl rfl (hP.sub [0, 1] rfl) (hK.sub [0] rfl)) rfl rfl hl.1 rfl (lv_room (Nat.le_of_ble_eq_true rfl)) dX0_peek_22 ⟨Nat.le_of_ble_eq_true rfl, Nat.le_of_ble_eq_true rfl⟩)) (fun r1 (e_r1 : r1 = nI (jg_w x n.toInt)) => ?_)
      subst e_r1
      exact W.iret (v := nI (jg_w x n.toInt)) hx hb hr (fun t9 ht9 hW9 => ⟨nI (jg_w x n.toInt), rfl, (if_pos ⟨jg_ge c3, c9⟩).symm, ht9⟩) (fun q h => absurd h List.not_mem_nil) dX0_peek_25
    · refine lv_iconst (v := -1) hx hb dX0_peek_12 (by decide +kernel) ?_
      refine lv_goto (tgt := 25) hx hb dX0_peek_13 (by decide) ?_
      exact W.iret (v := (-1)) hx hb hr (fun t9 ht9 hW9 => ⟨(-1), rfl, (if_neg (fun q => c9 q.2)).symm, ht9⟩) (fun q h => absurd h List.not_mem_nil) dX0_peek_25
set_option maxHeartbeats 4000000 in
set_option maxRecDepth 100000 in
/-- before(s, n) -/
theorem c_X0_before (l : Launch) (dC : Nat → ClassId) (dI : Nat → Nat → Nat) (h0 h1 h2 h3 h4 : Nat) (d2 : ClassId) (x : Nat) (hx0 : x < 65536) (f : Nat → Int32) (hf : jg_im f) (a n : Int32) : Met l yX0_before (ws_ yX0_before cX0_before 3 (some .int)) ({ frames := 2, cells := 0, slots := 0, locals := 49 }) (jg_Pr (dC, dI) [(h0, oX (nI x) h1 h2 h3 h4), (h2, aI d2 272 f)] [(d2, .int)] [.ref h0, .int a, .int n]) (vp_Si (fun r => r = jg_qBef a n)) 0 0 (fun _ => False) := by
  refine Met.ofW (cc := cX0_before) (maxL := 3) (ret := (some .int)) (by decide) rfl ?_
  intro p e s m args below meth c s₁ B hml hv
  obtain ⟨rfl, hP, hK⟩ := hv
  have hx := B.exec
  have hb := B.bytes
  have hr := B.returns
  have hts := atoms_spec (ws := ws_ yX0_before cX0_before 3 (some .int)) B.pre
  have hts : ∀ w ∈ lw_all, w.before _ s = true := fun w h => hts w (List.mem_cons_of_mem _ h)
  have hown : s.vm.findClass RX0 = some m.cls := findClass_of_methodNamed B.named
  have hl := lv_entry ([.ref h0, .int a, .int n]) (n := 3) (Nat.le_of_ble_eq_true rfl)
  rw [lg_entry_eq]
  generalize (lg_sl ([.ref h0, .int a, .int n]) ++ List.replicate (3 - (lg_sl ([.ref h0, .int a, .int n])).length) Slot.unset).toArray = ls at hl ⊢
  have hl : lv_has ls 3 [(0, .ref h0), (1, .int a), (2, .int n)] := hl
  refine lv_iload_n hx hb dX0_before_0 rfl (lv_at hl 1 rfl) ?_
  refine vp_callSi (va_Run.run (va_runS (As := [.int a]) (rest := []) ⟨hx, hb, hml, hown, hts⟩ (c_X0_isState l dC dI a) (va_cwS 1 hts (lw_S q53 q54 q13 q55) rfl rfl rfl (by decide +kernel) ⟨Nat.le_of_ble_eq_true rfl, Nat.le_of_ble_eq_true rfl⟩) jg_preN rfl rfl hl.1 rfl (lv_room (Nat.le_of_ble_eq_true rfl)) dX0_before_1 ⟨Nat.le_of_ble_eq_true rfl, Nat.le_of_ble_eq_true rfl⟩)) (fun r1 (e_r1 : r1 = jg_qSeed a) => ?_)
  subst e_r1
  refine lv_if_eq (tgt := 27) hx hb dX0_before_4 (by decide) (fun c4 => ?_) (fun c4 => ?_)
  · refine lv_iconst (v := -1) hx hb dX0_before_27 (by decide +kernel) ?_
    exact W.iret (v := (-1)) hx hb hr (fun t9 ht9 hW9 => ⟨(-1), rfl, (if_neg (fun q => jg_seedF c4 q.1)).symm, ht9⟩) (fun q h => absurd h List.not_mem_nil) dX0_before_28
  · have hs := jg_seedT c4
    refine lv_iload_n hx hb dX0_before_7 rfl (lv_at hl 2 rfl) ?_
    refine lv_if_lt (tgt := 27) hx hb dX0_before_8 (by decide) (fun c8 => ?_) (fun c8 => ?_)
    · refine lv_iconst (v := -1) hx hb dX0_before_27 (by decide +kernel) ?_
      exact W.iret (v := (-1)) hx hb hr (fun t9 ht9 hW9 => ⟨(-1), rfl, (if_neg (fun q => absurd q.2.1 (jg_nle c8))).symm, ht9⟩) (fun q h => absurd h List.not_mem_nil) dX0_before_28
    · refine lv_iload_n hx hb dX0_before_11 rfl (lv_at hl 2 rfl) ?_
      refine lv_ldc (v := 100000) hx hb hown (hts _ q69) dX0_before_12 ?_
      refine lv_icmp_gt (tgt := 27) hx hb dX0_before_14 (by decide) (fun c14 => ?_) (fun c14 => ?_)
      · refine lv_iconst (v := -1) hx hb dX0_before_27 (by decide +kernel) ?_
        exact W.iret (v := (-1)) hx hb hr (fun t9 ht9 hW9 => ⟨(-1), rfl, (if_neg (fun q => absurd q.2.2 (jg_nle c14))).symm, ht9⟩) (fun q h => absurd h List.not_mem_nil) dX0_before_28
      · have hn : jg_up n := ⟨jg_ge c8, jg_ge c14⟩
        have hq : jg_qBef a n = nI (jg_w a.toNatClampNeg (-n.toInt)) := if_pos ⟨hs, hn⟩
        obtain ⟨y, y0, y1, ey⟩ := jg_isS_of hs
        obtain ⟨k, k0, ek⟩ := jg_up_of hn
        have hc : a.toNatClampNeg = y := by rw [ey, nI_clamp (by omega)]
        have hz : (-n).toInt = -n.toInt := by rw [ek, sb_negT (by omega), nI_toInt (by omega)]
        rw [hc, ← hz] at hq
        subst ey
        refine lv_aload_n hx hb dX0_before_17 rfl (lv_at hl 0 rfl) ?_
        refine lv_iload_n hx hb dX0_before_18 rfl (lv_at hl 1 rfl) ?_
        refine lv_iload_n hx hb dX0_before_19 rfl (lv_at hl 2 rfl) ?_
        refine lv_ineg hx hb dX0_before_20 ?_
        refine vp_callSi (va_Run.run (va_runV (As := [.int (nI y), .int (-n)]) (rest := []) ⟨hx, hb, hml, hown, hts⟩ (c_X0_wind l dC dI h0 h1 h2 h3 h4 d2 (nI x) f hf y y1 (-n)) (cwV 2 hts (lw_V q70 q72 qs1 q13 q73) rfl rfl rfl (by decide +kernel) ⟨Nat.le_of_ble_eq_true rfl, Nat.le_of_ble_eq_true rfl⟩) (jg_preR (ci := 0) (q0 := 0) hK hP rfl rfl rfl (hP.sub [0, 1] rfl) (hK.sub [0] rfl)) rfl rfl hl.1 rfl (lv_room (Nat.le_of_ble_eq_true rfl)) dX0_before_21 ⟨Nat.le_of_ble_eq_true rfl, Nat.le_of_ble_eq_true rfl⟩)) (fun r2 (e_r2 : r2 = nI (jg_w y (-n).toInt)) => ?_)
        subst e_r2
        refine lv_goto (tgt := 28) hx hb dX0_before_24 (by decide) ?_
        exact W.iret (v := nI (jg_w y (-n).toInt)) hx hb hr (fun t9 ht9 hW9 => ⟨nI (jg_w y (-n).toInt), rfl, hq.symm, ht9⟩) (fun q h => absurd h List.not_mem_nil) dX0_before_28
set_option maxHeartbeats 4000000 in
set_option maxRecDepth 100000 in
/-- apart(s, t, n) -/
theorem c_X0_apart (l : Launch) (dC : Nat → ClassId) (dI : Nat → Nat → Nat) (h0 h1 h2 h3 h4 : Nat) (d2 : ClassId) (x : Nat) (hx0 : x < 65536) (f : Nat → Int32) (hf : jg_im f) (a b n : Int32) : Met l yX0_apart (ws_ yX0_apart cX0_apart 4 (some .int)) ({ frames := 2, cells := 0, slots := 0, locals := 49 }) (jg_Pr (dC, dI) [(h0, oX (nI x) h1 h2 h3 h4), (h2, aI d2 272 f)] [(d2, .int)] [.ref h0, .int a, .int b, .int n]) (vp_Si (fun r => r = jg_qApart a b n)) 0 0 (fun _ => False) := by
  refine Met.ofW (cc := cX0_apart) (maxL := 4) (ret := (some .int)) (by decide) rfl ?_
  intro p e s m args below meth c s₁ B hml hv
  obtain ⟨rfl, hP, hK⟩ := hv
  have hx := B.exec
  have hb := B.bytes
  have hr := B.returns
  have hts := atoms_spec (ws := ws_ yX0_apart cX0_apart 4 (some .int)) B.pre
  have hts : ∀ w ∈ lw_all, w.before _ s = true := fun w h => hts w (List.mem_cons_of_mem _ h)
  have hown : s.vm.findClass RX0 = some m.cls := findClass_of_methodNamed B.named
  have hl := lv_entry ([.ref h0, .int a, .int b, .int n]) (n := 4) (Nat.le_of_ble_eq_true rfl)
  rw [lg_entry_eq]
  generalize (lg_sl ([.ref h0, .int a, .int b, .int n]) ++ List.replicate (4 - (lg_sl ([.ref h0, .int a, .int b, .int n])).length) Slot.unset).toArray = ls at hl ⊢
  have hl : lv_has ls 4 [(0, .ref h0), (1, .int a), (2, .int b), (3, .int n)] := hl
  refine lv_iload_n hx hb dX0_apart_0 rfl (lv_at hl 1 rfl) ?_
  refine vp_callSi (va_Run.run (va_runS (As := [.int a]) (rest := []) ⟨hx, hb, hml, hown, hts⟩ (c_X0_isState l dC dI a) (va_cwS 1 hts (lw_S q53 q54 q13 q55) rfl rfl rfl (by decide +kernel) ⟨Nat.le_of_ble_eq_true rfl, Nat.le_of_ble_eq_true rfl⟩) jg_preN rfl rfl hl.1 rfl (lv_room (Nat.le_of_ble_eq_true rfl)) dX0_apart_1 ⟨Nat.le_of_ble_eq_true rfl, Nat.le_of_ble_eq_true rfl⟩)) (fun r1 (e_r1 : r1 = jg_qSeed a) => ?_)
  subst e_r1
  refine lv_if_eq (tgt := 35) hx hb dX0_apart_4 (by decide) (fun c4 => ?_) (fun c4 => ?_)
  · refine lv_iconst (v := -1) hx hb dX0_apart_35 (by decide +kernel) ?_
    exact W.iret (v := (-1)) hx hb hr (fun t9 ht9 hW9 => ⟨(-1), rfl, (if_neg (fun q => jg_seedF c4 q.1)).symm, ht9⟩) (fun q h => absurd h List.not_mem_nil) dX0_apart_36
  · have hs := jg_seedT c4
    refine lv_iload_n hx hb dX0_apart_7 rfl (lv_at hl 2 rfl) ?_
    refine vp_callSi (va_Run.run (va_runS (As := [.int b]) (rest := []) ⟨hx, hb, hml, hown, hts⟩ (c_X0_isState l dC dI b) (va_cwS 1 hts (lw_S q53 q54 q13 q55) rfl rfl rfl (by decide +kernel) ⟨Nat.le_of_ble_eq_true rfl, Nat.le_of_ble_eq_true rfl⟩) jg_preN rfl rfl hl.1 rfl (lv_room (Nat.le_of_ble_eq_true rfl)) dX0_apart_8 ⟨Nat.le_of_ble_eq_true rfl, Nat.le_of_ble_eq_true rfl⟩)) (fun r2 (e_r2 : r2 = jg_qSeed b) => ?_)
    subst e_r2
    refine lv_if_eq (tgt := 35) hx hb dX0_apart_11 (by decide) (fun c11 => ?_) (fun c11 => ?_)
    · refine lv_iconst (v := -1) hx hb dX0_apart_35 (by decide +kernel) ?_
      exact W.iret (v := (-1)) hx hb hr (fun t9 ht9 hW9 => ⟨(-1), rfl, (if_neg (fun q => jg_seedF c11 q.2.1)).symm, ht9⟩) (fun q h => absurd h List.not_mem_nil) dX0_apart_36
    · have ht := jg_seedT c11
      refine lv_iload_n hx hb dX0_apart_14 rfl (lv_at hl 3 rfl) ?_
      refine lv_if_lt (tgt := 35) hx hb dX0_apart_15 (by decide) (fun c15 => ?_) (fun c15 => ?_)
      · refine lv_iconst (v := -1) hx hb dX0_apart_35 (by decide +kernel) ?_
        exact W.iret (v := (-1)) hx hb hr (fun t9 ht9 hW9 => ⟨(-1), rfl, (if_neg (fun q => absurd q.2.2.1 (jg_nle c15))).symm, ht9⟩) (fun q h => absurd h List.not_mem_nil) dX0_apart_36
      · refine lv_iload_n hx hb dX0_apart_18 rfl (lv_at hl 3 rfl) ?_
        refine lv_ldc (v := 100000) hx hb hown (hts _ q69) dX0_apart_19 ?_
        refine lv_icmp_gt (tgt := 35) hx hb dX0_apart_21 (by decide) (fun c21 => ?_) (fun c21 => ?_)
        · refine lv_iconst (v := -1) hx hb dX0_apart_35 (by decide +kernel) ?_
          exact W.iret (v := (-1)) hx hb hr (fun t9 ht9 hW9 => ⟨(-1), rfl, (if_neg (fun q => absurd q.2.2.2 (jg_nle c21))).symm, ht9⟩) (fun q h => absurd h List.not_mem_nil) dX0_apart_36
        · have hq : jg_qApart a b n = nI (jg_w (a.toNatClampNeg ^^^ b.toNatClampNeg) n.toInt) := if_pos ⟨hs, ht, jg_ge c15, jg_ge c21⟩
          obtain ⟨y, y0, y1, ey⟩ := jg_isS_of hs
          obtain ⟨z, z0, z1, ez⟩ := jg_isS_of ht
          rw [show a.toNatClampNeg = y by rw [ey, nI_clamp (by omega)], show b.toNatClampNeg = z by rw [ez, nI_clamp (by omega)]] at hq
          subst ey
          subst ez
          refine lv_aload_n hx hb dX0_apart_24 rfl (lv_at hl 0 rfl) ?_
          refine lv_iload_n hx hb dX0_apart_25 rfl (lv_at hl 1 rfl) ?_
          refine lv_iload_n hx hb dX0_apart_26 rfl (lv_at hl 2 rfl) ?_
          refine lv_ixor hx hb dX0_apart_27 ?_
          refine jg_top (y := nI (y ^^^ z)) (jg_xor y z) ?_
          refine lv_iload_n hx hb dX0_apart_28 rfl (lv_at hl 3 rfl) ?_
          refine vp_callSi (va_Run.run (va_runV (As := [.int (nI (y ^^^ z)), .int n]) (rest := []) ⟨hx, hb, hml, hown, hts⟩ (c_X0_wind l dC dI h0 h1 h2 h3 h4 d2 (nI x) f hf (y ^^^ z) (jg_lt16 y1 z1) n) (cwV 2 hts (lw_V q70 q72 qs1 q13 q73) rfl rfl rfl (by decide +kernel) ⟨Nat.le_of_ble_eq_true rfl, Nat.le_of_ble_eq_true rfl⟩) (jg_preR (ci := 0) (q0 := 0) hK hP rfl rfl rfl (hP.sub [0, 1] rfl) (hK.sub [0] rfl)) rfl rfl hl.1 rfl (lv_room (Nat.le_of_ble_eq_true rfl)) dX0_apart_29 ⟨Nat.le_of_ble_eq_true rfl, Nat.le_of_ble_eq_true rfl⟩)) (fun r3 (e_r3 : r3 = nI (jg_w (y ^^^ z) n.toInt)) => ?_)
          subst e_r3
          refine lv_goto (tgt := 36) hx hb dX0_apart_32 (by decide) ?_
          exact W.iret (v := nI (jg_w (y ^^^ z) n.toInt)) hx hb hr (fun t9 ht9 hW9 => ⟨nI (jg_w (y ^^^ z) n.toInt), rfl, hq.symm, ht9⟩) (fun q h => absurd h List.not_mem_nil) dX0_apart_36
theorem jg_half (N k : Nat) : N / 2 ^ k = 2 * (N / 2 ^ (k + 1)) + (N / 2 ^ k) % 2 := by
  rw [Nat.pow_succ, ← Nat.div_div_eq_div_mul]
  omega
theorem jg_halfF {N k : Nat} (h : ¬ N.testBit k = true) : N / 2 ^ k = 2 * (N / 2 ^ (k + 1)) := by
  rw [Nat.testBit_eq_decide_div_mod_eq, decide_eq_true_iff] at h
  have := jg_half N k
  omega
theorem jg_halfT {N k : Nat} (h : N.testBit k = true) : N / 2 ^ k = 2 * (N / 2 ^ (k + 1)) + 1 := by
  rw [Nat.testBit_eq_decide_div_mod_eq, decide_eq_true_iff] at h
  have := jg_half N k
  omega
theorem jg_dec (x : Int32) : x + Int32.ofInt (-1) = x - 1 := by
  rw [Int32.sub_eq_add_neg]
  rfl
set_option maxHeartbeats 4000000 in
set_option maxRecDepth 100000 in
/-- mixed(n): the exclusive sum of the next n states -/
theorem c_X0_mixed (l : Launch) (dC : Nat → ClassId) (dI : Nat → Nat → Nat) (h0 h1 h2 h3 h4 : Nat) (d2 : ClassId) (x : Nat) (hx0 : x < 65536) (f : Nat → Int32) (hf : jg_im f) (n : Int32) : Met l yX0_mixed (ws_ yX0_mixed cX0_mixed 5 (some .int)) ({ frames := 2, cells := 0, slots := 0, locals := 49 }) (jg_Pr (dC, dI) [(h0, oX (nI x) h1 h2 h3 h4), (h2, aI d2 272 f)] [(d2, .int)] [.ref h0, .int n]) (vp_Si (fun r => r = jg_qMix x n)) 0 0 (fun _ => False) := by
  refine Met.ofW (cc := cX0_mixed) (maxL := 5) (ret := (some .int)) (by decide) rfl ?_
  intro p e s m args below meth c s₁ B hml hv
  obtain ⟨rfl, hP, hK⟩ := hv
  have hx := B.exec
  have hb := B.bytes
  have hr := B.returns
  have hts := atoms_spec (ws := ws_ yX0_mixed cX0_mixed 5 (some .int)) B.pre
  have hts : ∀ w ∈ lw_all, w.before _ s = true := fun w h => hts w (List.mem_cons_of_mem _ h)
  have hown : s.vm.findClass RX0 = some m.cls := findClass_of_methodNamed B.named
  have hl := lv_entry ([.ref h0, .int n]) (n := 5) (Nat.le_of_ble_eq_true rfl)
  rw [lg_entry_eq]
  generalize (lg_sl ([.ref h0, .int n]) ++ List.replicate (5 - (lg_sl ([.ref h0, .int n])).length) Slot.unset).toArray = ls at hl ⊢
  have hl : lv_has ls 5 [(0, .ref h0), (1, .int n)] := hl
  refine lv_iload_n hx hb dX0_mixed_0 rfl (lv_at hl 1 rfl) ?_
  refine lv_if_lt (tgt := 10) hx hb dX0_mixed_1 (by decide) (fun c1 => ?_) (fun c1 => ?_)
  · refine lv_iconst (v := -1) hx hb dX0_mixed_10 (by decide +kernel) ?_
    exact W.iret (v := (-1)) hx hb hr (fun t9 ht9 hW9 => ⟨(-1), rfl, (if_neg (fun q => absurd q.1 (jg_nle c1))).symm, ht9⟩) (fun q h => absurd h List.not_mem_nil) dX0_mixed_11
  · refine lv_iload_n hx hb dX0_mixed_4 rfl (lv_at hl 1 rfl) ?_
    refine lv_ldc (v := 100000) hx hb hown (hts _ q69) dX0_mixed_5 ?_
    refine lv_icmp_le (tgt := 12) hx hb dX0_mixed_7 (by decide) (fun c7 => ?_) (fun c7 => ?_)
    · have hq : jg_qMix x n = nI (jg_S x n.toNatClampNeg) := if_pos ⟨jg_ge c1, c7⟩
      obtain ⟨N, hN, eN⟩ := jg_up_of ⟨jg_ge c1, c7⟩
      subst eN
      rw [nI_clamp (by omega)] at hq
      refine lv_iconst (v := nI 0) hx hb dX0_mixed_12 (by decide +kernel) ?_
      refine lv_istore_n (lv' := [(2, .int (nI 0)), (0, .ref h0), (1, .int (nI N))]) hx hb dX0_mixed_13 rfl hl (by decide) rfl (fun ls hl => ?_)
      refine lv_iconst (v := nI 0) hx hb dX0_mixed_14 (by decide +kernel) ?_
      refine lv_istore_n (lv' := [(3, .int (nI 0)), (2, .int (nI 0)), (0, .ref h0), (1, .int (nI N))]) hx hb dX0_mixed_15 rfl hl (by decide) rfl (fun ls hl => ?_)
      refine lv_bipush (v := nI 16) hx hb dX0_mixed_16 (by decide +kernel) ?_
      refine lv_istore (lv' := [(4, .int (nI 16)), (3, .int (nI 0)), (2, .int (nI 0)), (0, .ref h0), (1, .int (nI N))]) hx hb dX0_mixed_18 hl (by decide) rfl (fun ls hl => ?_)
      refine jg_loop (fun j ls => j ≤ 17 ∧ ∃ v : Int32, v = nI j - 1 ∧ lv_has ls 5 [(0, .ref h0), (1, .int (nI N)), (2, .int (nI (jg_S x (N / 2 ^ j)))), (3, .int (nI (N / 2 ^ j))), (4, .int v)]) (fun j => j) ?_ 17 ls ⟨by omega, nI 16, (nI_pred 16).symm, by rw [show N / 2 ^ 17 = 0 from Nat.div_eq_of_lt (by omega)]; exact lv_sub hl [3, 4, 2, 1, 0] rfl⟩
      intro j ls hI ih
      obtain ⟨hj, v, ev, hl⟩ := hI
      refine lv_iload hx hb dX0_mixed_20 (lv_at hl 4 rfl) ?_
      refine lv_if_lt (tgt := 68) hx hb dX0_mixed_22 (by decide) (fun c22 => ?_) (fun c22 => ?_)
      · obtain rfl : j = 0 := by
          cases j with
          | zero => rfl
          | succ k => rw [ev, nI_pred] at c22; exact absurd c22 (nI_pos (by omega))
        refine lv_iload_n hx hb dX0_mixed_68 rfl (lv_at hl 2 rfl) ?_
        exact W.iret (v := nI (jg_S x (N / 2 ^ 0))) hx hb hr (fun t9 ht9 hW9 => ⟨nI (jg_S x (N / 2 ^ 0)), rfl, by rw [hq, Nat.pow_zero, Nat.div_one], ht9⟩) (fun q h => absurd h List.not_mem_nil) dX0_mixed_69
      · obtain ⟨k, rfl⟩ : ∃ k, j = k + 1 := by
          cases j with
          | zero => rw [ev] at c22; exact absurd (by decide +kernel) c22
          | succ k => exact ⟨k, rfl⟩
        rw [nI_pred] at ev
        subst ev
        have hlen : N / 2 ^ (k + 1) ≤ N := Nat.div_le_self _ _
        have hS1 := jg_S_lt hx0 (N / 2 ^ (k + 1))
        refine lv_iload_n hx hb dX0_mixed_25 rfl (lv_at hl 2 rfl) ?_
        refine lv_aload_n hx hb dX0_mixed_26 rfl (lv_at hl 0 rfl) ?_
        refine lv_iload_n hx hb dX0_mixed_27 rfl (lv_at hl 2 rfl) ?_
        refine lv_iload_n hx hb dX0_mixed_28 rfl (lv_at hl 3 rfl) ?_
        refine vp_callSi (va_Run.run (va_runV (As := [.int (nI (jg_S x (N / 2 ^ (k + 1)))), .int (nI (N / 2 ^ (k + 1)))]) (rest := [.int (nI (jg_S x (N / 2 ^ (k + 1))))]) ⟨hx, hb, hml, hown, hts⟩ (c_X0_wind l dC dI h0 h1 h2 h3 h4 d2 (nI x) f hf (jg_S x (N / 2 ^ (k + 1))) hS1 (nI (N / 2 ^ (k + 1)))) (cwV 2 hts (lw_V q70 q72 qs1 q13 q73) rfl rfl rfl (by decide +kernel) ⟨Nat.le_of_ble_eq_true rfl, Nat.le_of_ble_eq_true rfl⟩) (jg_preR (ci := 0) (q0 := 0) hK hP rfl rfl rfl (hP.sub [0, 1] rfl) (hK.sub [0] rfl)) rfl rfl hl.1 rfl (lv_room (Nat.le_of_ble_eq_true rfl)) dX0_mixed_29 ⟨Nat.le_of_ble_eq_true rfl, Nat.le_of_ble_eq_true rfl⟩)) (fun r1 (e_r1 : r1 = nI (jg_w (jg_S x (N / 2 ^ (k + 1))) (nI (N / 2 ^ (k + 1))).toInt)) => ?_)
        subst e_r1
        refine lv_ixor hx hb dX0_mixed_32 ?_
        refine jg_top (y := nI (jg_S x (2 * (N / 2 ^ (k + 1))))) (by rw [jg_xor, nI_toInt (by omega), jg_S_two hx0]) ?_
        refine lv_istore_n (lv' := [(2, .int (nI (jg_S x (2 * (N / 2 ^ (k + 1)))))), (0, .ref h0), (1, .int (nI N)), (3, .int (nI (N / 2 ^ (k + 1)))), (4, .int (nI k))]) hx hb dX0_mixed_33 rfl hl (by decide) rfl (fun ls hl => ?_)
        refine lv_iload_n hx hb dX0_mixed_34 rfl (lv_at hl 3 rfl) ?_
        refine lv_iconst (v := nI 2) hx hb dX0_mixed_35 (by decide +kernel) ?_
        refine lv_imul hx hb dX0_mixed_36 ?_
        refine jg_top (y := nI (2 * (N / 2 ^ (k + 1)))) (by rw [pk_mul, Nat.mul_comm]) ?_
        refine lv_istore_n (lv' := [(3, .int (nI (2 * (N / 2 ^ (k + 1))))), (2, .int (nI (jg_S x (2 * (N / 2 ^ (k + 1)))))), (0, .ref h0), (1, .int (nI N)), (4, .int (nI k))]) hx hb dX0_mixed_37 rfl hl (by decide) rfl (fun ls hl => ?_)
        refine lv_iload_n hx hb dX0_mixed_38 rfl (lv_at hl 3 rfl) ?_
        refine lv_iload hx hb dX0_mixed_39 (lv_at hl 4 rfl) ?_
        refine lv_ishr hx hb dX0_mixed_41 ?_
        refine lv_iconst (v := nI 1) hx hb dX0_mixed_42 (by decide +kernel) ?_
        refine lv_iand hx hb dX0_mixed_43 ?_
        refine lv_if_eq (tgt := 62) hx hb dX0_mixed_44 (by decide) (fun c44 => ?_) (fun c44 => ?_)
        · refine lv_iinc (v := nI k - 1) (lv' := [(4, .int (nI k - 1)), (3, .int (nI (2 * (N / 2 ^ (k + 1))))), (2, .int (nI (jg_S x (2 * (N / 2 ^ (k + 1)))))), (0, .ref h0), (1, .int (nI N))]) hx hb dX0_mixed_62 hl (k := 4) rfl (jg_dec _) (by decide) rfl (fun ls hl => ?_)
          refine lv_goto (tgt := 20) hx hb dX0_mixed_65 (by decide) ?_
          exact ih k ls (by omega) ⟨by omega, _, rfl, by rw [jg_halfF (jg_bitF (by omega) (by omega) c44)]; exact lv_sub hl [3, 4, 2, 1, 0] rfl⟩
        · refine lv_iload_n hx hb dX0_mixed_47 rfl (lv_at hl 1 rfl) ?_
          refine lv_aload_n hx hb dX0_mixed_48 rfl (lv_at hl 2 rfl) ?_
          refine lv_aload_n hx hb dX0_mixed_49 rfl (lv_at hl 2 rfl) ?_
          refine va_get (D := (dC, dI)) (ci := 0) (v := .int (nI x)) (C := RX0) (T := TX0) (N := 5) hx hb hts in_X0 hown hK hP 0 rfl rfl 0 (by decide) (hts _ q31) (fun _ h9 => h9) rfl dX0_mixed_50 ?_
          refine lv_iload_n hx hb dX0_mixed_53 rfl (lv_at hl 0 rfl) ?_
          refine vp_callSi (va_Run.run (va_runV (As := [.int (nI x), .int (nI (2 * (N / 2 ^ (k + 1))))]) (rest := [.int (nI (jg_S x (2 * (N / 2 ^ (k + 1)))))]) ⟨hx, hb, hml, hown, hts⟩ (c_X0_wind l dC dI h0 h1 h2 h3 h4 d2 (nI x) f hf x hx0 (nI (2 * (N / 2 ^ (k + 1))))) (cwV 2 hts (lw_V q70 q72 qs1 q13 q73) rfl rfl rfl (by decide +kernel) ⟨Nat.le_of_ble_eq_true rfl, Nat.le_of_ble_eq_true rfl⟩) (jg_preR (ci := 0) (q0 := 0) hK hP rfl rfl rfl (hP.sub [0, 1] rfl) (hK.sub [0] rfl)) rfl rfl hl.1 rfl (lv_room (Nat.le_of_ble_eq_true rfl)) dX0_mixed_54 ⟨Nat.le_of_ble_eq_true rfl, Nat.le_of_ble_eq_true rfl⟩)) (fun r2 (e_r2 : r2 = nI (jg_w x (nI (2 * (N / 2 ^ (k + 1)))).toInt)) => ?_)
          subst e_r2
          refine lv_ixor hx hb dX0_mixed_57 ?_
          refine jg_top (y := nI (jg_S x (2 * (N / 2 ^ (k + 1)) + 1))) (by rw [jg_xor, nI_toInt (by omega), jg_w_fwd hx0, ← jg_S_s]) ?_
          refine lv_istore_n (lv' := [(2, .int (nI (jg_S x (2 * (N / 2 ^ (k + 1)) + 1)))), (3, .int (nI (2 * (N / 2 ^ (k + 1))))), (0, .ref h0), (1, .int (nI N)), (4, .int (nI k))]) hx hb dX0_mixed_58 rfl hl (by decide) rfl (fun ls hl => ?_)
          refine lv_iinc (v := nI (2 * (N / 2 ^ (k + 1)) + 1)) (lv' := [(3, .int (nI (2 * (N / 2 ^ (k + 1)) + 1))), (2, .int (nI (jg_S x (2 * (N / 2 ^ (k + 1)) + 1)))), (0, .ref h0), (1, .int (nI N)), (4, .int (nI k))]) hx hb dX0_mixed_59 hl (k := 1) rfl (nI_1 _) (by decide) rfl (fun ls hl => ?_)
          refine lv_iinc (v := nI k - 1) (lv' := [(4, .int (nI k - 1)), (3, .int (nI (2 * (N / 2 ^ (k + 1)) + 1))), (2, .int (nI (jg_S x (2 * (N / 2 ^ (k + 1)) + 1)))), (0, .ref h0), (1, .int (nI N))]) hx hb dX0_mixed_62 hl (k := 4) rfl (jg_dec _) (by decide) rfl (fun ls hl => ?_)
          refine lv_goto (tgt := 20) hx hb dX0_mixed_65 (by decide) ?_
          exact ih k ls (by omega) ⟨by omega, _, rfl, by rw [jg_halfT (jg_bitT (by omega) (by omega) c44)]; exact lv_sub hl [3, 4, 2, 1, 0] rfl⟩
    · refine lv_iconst (v := -1) hx hb dX0_mixed_10 (by decide +kernel) ?_
      exact W.iret (v := (-1)) hx hb hr (fun t9 ht9 hW9 => ⟨(-1), rfl, (if_neg (fun q => c7 q.2)).symm, ht9⟩) (fun q h => absurd h List.not_mem_nil) dX0_mixed_11
set_option maxHeartbeats 4000000 in
set_option maxRecDepth 100000 in
/-- period() -/
theorem c_X0_period (l : Launch) (dC : Nat → ClassId) (dI : Nat → Nat → Nat) (h0 h1 h2 h3 h4 : Nat) (d2 : ClassId) (x : Nat) (hx0 : x < 65536) (f : Nat → Int32) (hf : jg_im f) (x0 : 0 < x) : Met l yX0_period (ws_ yX0_period cX0_period 3 (some .int)) ({ frames := 2, cells := 0, slots := 0, locals := 49 }) (jg_Pr (dC, dI) [(h0, oX (nI x) h1 h2 h3 h4), (h2, aI d2 272 f)] [(d2, .int)] [.ref h0]) (vp_Si (fun r => r = 65535)) 0 0 (fun _ => False) := by
  refine Met.ofW (cc := cX0_period) (maxL := 3) (ret := (some .int)) (by decide) rfl ?_
  intro p e s m args below meth c s₁ B hml hv
  obtain ⟨rfl, hP, hK⟩ := hv
  have hx := B.exec
  have hb := B.bytes
  have hr := B.returns
  have hts := atoms_spec (ws := ws_ yX0_period cX0_period 3 (some .int)) B.pre
  have hts : ∀ w ∈ lw_all, w.before _ s = true := fun w h => hts w (List.mem_cons_of_mem _ h)
  have hown : s.vm.findClass RX0 = some m.cls := findClass_of_methodNamed B.named
  have hl := lv_entry ([.ref h0]) (n := 3) (Nat.le_of_ble_eq_true rfl)
  rw [lg_entry_eq]
  generalize (lg_sl ([.ref h0]) ++ List.replicate (3 - (lg_sl ([.ref h0])).length) Slot.unset).toArray = ls at hl ⊢
  have hl : lv_has ls 3 [(0, .ref h0)] := hl
  refine lv_iconst (v := nI 1) hx hb dX0_period_0 (by decide +kernel) ?_
  refine lv_istore_n (lv' := [(1, .int (nI 1)), (0, .ref h0)]) hx hb dX0_period_1 rfl hl (by decide) rfl (fun ls hl => ?_)
  refine jg_loop (fun i ls => (1 ≤ i ∧ i ≤ 65535) ∧ lv_has ls 3 [(0, .ref h0), (1, .int (nI i))]) (fun i => 65535 - i) ?_ 1 ls ⟨by omega, lv_sub hl [1, 0] rfl⟩
  intro i ls hI ih
  obtain ⟨hi, hl⟩ := hI
  refine lv_iload_n hx hb dX0_period_2 rfl (lv_at hl 1 rfl) ?_
  refine lv_ldc (v := 65535) hx hb hown (hts _ q26) dX0_period_3 ?_
  refine lv_icmp_ge (tgt := 49) hx hb dX0_period_5 (by decide) (fun c5 => ?_) (fun c5 => ?_)
  · refine lv_ldc (v := 65535) hx hb hown (hts _ q26) dX0_period_49 ?_
    exact W.iret (v := 65535) hx hb hr (fun t9 ht9 hW9 => ⟨65535, rfl, rfl, ht9⟩) (fun q h => absurd h List.not_mem_nil) dX0_period_51
  · have hi9 : i < 65535 := Nat.lt_of_not_le (fun q => c5 ((nI_leI (a := 65535) (by omega) (by omega)).mpr q))
    refine lv_ldc (v := 65535) hx hb hown (hts _ q26) dX0_period_8 ?_
    refine lv_iload_n hx hb dX0_period_10 rfl (lv_at hl 1 rfl) ?_
    refine lv_irem hx hb dX0_period_11 (nI_ne0 (by omega) (by omega)) ?_
    refine lv_if_ne (tgt := 19) hx hb dX0_period_12 (by decide) (fun c12 => ?_) (fun c12 => ?_)
    · refine lv_iconst (v := nI 0) hx hb dX0_period_19 (by decide +kernel) ?_
      refine lv_istore_n (lv' := [(2, .int (nI 0)), (0, .ref h0), (1, .int (nI i))]) hx hb dX0_period_20 rfl hl (by decide) rfl (fun ls hl => ?_)
      refine lv_iload_n hx hb dX0_period_21 rfl (lv_at hl 0 rfl) ?_
      refine lv_if_eq (tgt := 43) hx hb dX0_period_22 (by decide) (fun c22 => ?_) (fun c22 => ?_)
      · refine lv_iinc (v := nI (i + 1)) (lv' := [(1, .int (nI (i + 1))), (2, .int (nI 0)), (0, .ref h0)]) hx hb dX0_period_43 hl (k := 2) rfl (nI_1 i) (by decide) rfl (fun ls hl => ?_)
        refine lv_goto (tgt := 2) hx hb dX0_period_46 (by decide) ?_
        exact ih (i + 1) ls (by omega) ⟨by omega, lv_sub hl [2, 0] rfl⟩
      · exact absurd nI_0 c22
    · refine lv_iconst (v := nI 1) hx hb dX0_period_15 (by decide +kernel) ?_
      refine lv_goto (tgt := 20) hx hb dX0_period_16 (by decide) ?_
      refine lv_istore_n (lv' := [(2, .int (nI 1)), (0, .ref h0), (1, .int (nI i))]) hx hb dX0_period_20 rfl hl (by decide) rfl (fun ls hl => ?_)
      refine lv_iload_n hx hb dX0_period_21 rfl (lv_at hl 0 rfl) ?_
      refine lv_if_eq (tgt := 43) hx hb dX0_period_22 (by decide) (fun c22 => ?_) (fun c22 => ?_)
      · exact absurd c22 (by decide +kernel)
      · refine lv_aload_n hx hb dX0_period_25 rfl (lv_at hl 1 rfl) ?_
        refine lv_aload_n hx hb dX0_period_26 rfl (lv_at hl 1 rfl) ?_
        refine va_get (D := (dC, dI)) (ci := 0) (v := .int (nI x)) (C := RX0) (T := TX0) (N := 5) hx hb hts in_X0 hown hK hP 0 rfl rfl 0 (by decide) (hts _ q31) (fun _ h9 => h9) rfl dX0_period_27 ?_
        refine lv_iload_n hx hb dX0_period_30 rfl (lv_at hl 2 rfl) ?_
        refine vp_callSi (va_Run.run (va_runV (As := [.int (nI x), .int (nI i)]) (rest := []) ⟨hx, hb, hml, hown, hts⟩ (c_X0_wind l dC dI h0 h1 h2 h3 h4 d2 (nI x) f hf x hx0 (nI i)) (cwV 2 hts (lw_V q70 q72 qs1 q13 q73) rfl rfl rfl (by decide +kernel) ⟨Nat.le_of_ble_eq_true rfl, Nat.le_of_ble_eq_true rfl⟩) (jg_preR (ci := 0) (q0 := 0) hK hP rfl rfl rfl (hP.sub [0, 1] rfl) (hK.sub [0] rfl)) rfl rfl hl.1 rfl (lv_room (Nat.le_of_ble_eq_true rfl)) dX0_period_31 ⟨Nat.le_of_ble_eq_true rfl, Nat.le_of_ble_eq_true rfl⟩)) (fun r1 (e_r1 : r1 = nI (jg_w x (nI i).toInt)) => ?_)
        subst e_r1
        refine lv_aload_n hx hb dX0_period_34 rfl (lv_at hl 1 rfl) ?_
        refine va_get (D := (dC, dI)) (ci := 0) (v := .int (nI x)) (C := RX0) (T := TX0) (N := 5) hx hb hts in_X0 hown hK hP 0 rfl rfl 0 (by decide) (hts _ q31) (fun _ h9 => h9) rfl dX0_period_35 ?_
        refine lv_icmp_ne (tgt := 43) hx hb dX0_period_38 (by decide) (fun c38 => ?_) (fun c38 => ?_)
        · refine lv_iinc (v := nI (i + 1)) (lv' := [(1, .int (nI (i + 1))), (2, .int (nI 1)), (0, .ref h0)]) hx hb dX0_period_43 hl (k := 2) rfl (nI_1 i) (by decide) rfl (fun ls hl => ?_)
          refine lv_goto (tgt := 2) hx hb dX0_period_46 (by decide) ?_
          exact ih (i + 1) ls (by omega) ⟨by omega, lv_sub hl [2, 0] rfl⟩
        · exfalso
          rw [nI_toInt (by omega), jg_w_fwd hx0] at c38
          exact jg_apart (i := 0) (j := i) x0 hx0 (by omega) (by omega) (jg_ninj hx0 (jg_i_lt hx0) c38.symm)
set_option maxHeartbeats 4000000 in
set_option maxRecDepth 100000 in
/-- nextRound(k) -/
theorem c_X0_nextRound (l : Launch) (dC : Nat → ClassId) (dI : Nat → Nat → Nat) (h0 h1 h2 h3 h4 : Nat) (x : Nat) (x0 : 0 < x) (hx0 : x < 65536) (k : Int32) : Met l yX0_nextRound (ws_ yX0_nextRound cX0_nextRound 4 (some .int)) ({ frames := 1, cells := 0, slots := 0, locals := 21 }) (jg_Pr (dC, dI) [(h0, oX (nI x) h1 h2 h3 h4)] [] [.ref h0, .int k]) (vp_Si (fun r => r = jg_qNext x k)) 0 0 (fun _ => False) := by
  refine Met.ofW (cc := cX0_nextRound) (maxL := 4) (ret := (some .int)) (by decide) rfl ?_
  intro p e s m args below meth c s₁ B hml hv
  obtain ⟨rfl, hP, hK⟩ := hv
  have hx := B.exec
  have hb := B.bytes
  have hr := B.returns
  have hts := atoms_spec (ws := ws_ yX0_nextRound cX0_nextRound 4 (some .int)) B.pre
  have hts : ∀ w ∈ lw_all, w.before _ s = true := fun w h => hts w (List.mem_cons_of_mem _ h)
  have hown : s.vm.findClass RX0 = some m.cls := findClass_of_methodNamed B.named
  have hl := lv_entry ([.ref h0, .int k]) (n := 4) (Nat.le_of_ble_eq_true rfl)
  rw [lg_entry_eq]
  generalize (lg_sl ([.ref h0, .int k]) ++ List.replicate (4 - (lg_sl ([.ref h0, .int k])).length) Slot.unset).toArray = ls at hl ⊢
  have hl : lv_has ls 4 [(0, .ref h0), (1, .int k)] := hl
  refine lv_iload_n hx hb dX0_nextRound_0 rfl (lv_at hl 1 rfl) ?_
  refine lv_if_lt (tgt := 10) hx hb dX0_nextRound_1 (by decide) (fun c1 => ?_) (fun c1 => ?_)
  · refine lv_iconst (v := -1) hx hb dX0_nextRound_10 (by decide +kernel) ?_
    exact W.iret (v := (-1)) hx hb hr (fun t9 ht9 hW9 => ⟨(-1), rfl, (if_neg (fun q => absurd q.1 (jg_nle c1))).symm, ht9⟩) (fun q h => absurd h List.not_mem_nil) dX0_nextRound_11
  · refine lv_iload_n hx hb dX0_nextRound_4 rfl (lv_at hl 1 rfl) ?_
    refine lv_bipush (v := nI 8) hx hb dX0_nextRound_5 (by decide +kernel) ?_
    refine lv_icmp_le (tgt := 12) hx hb dX0_nextRound_7 (by decide) (fun c7 => ?_) (fun c7 => ?_)
    · have hq : jg_qNext x k = nI (jg_e x k.toNatClampNeg) := if_pos ⟨jg_ge c1, c7⟩
      obtain ⟨K, hK8, eK⟩ := nI_of2 (x := k) (M := 8) (n := 8) (by decide) c1 c7
      subst eK
      rw [nI_clamp (by omega)] at hq
      obtain ⟨e1, e2, e3⟩ := jg_e_spec x0 hx0 hK8
      generalize jg_e x K = E at e1 e2 e3 hq
      refine lv_aload_n hx hb dX0_nextRound_12 rfl (lv_at hl 0 rfl) ?_
      refine va_get (D := (dC, dI)) (ci := 0) (v := .int (nI x)) (C := RX0) (T := TX0) (N := 5) hx hb hts in_X0 hown hK hP 0 rfl rfl 0 (by decide) (hts _ q31) (fun _ h9 => h9) rfl dX0_nextRound_13 ?_
      refine lv_istore_n (lv' := [(2, .int (nI x)), (0, .ref h0), (1, .int (nI K))]) hx hb dX0_nextRound_16 rfl hl (by decide) rfl (fun ls hl => ?_)
      refine lv_iconst (v := nI 0) hx hb dX0_nextRound_17 (by decide +kernel) ?_
      refine lv_istore_n (lv' := [(3, .int (nI 0)), (2, .int (nI x)), (0, .ref h0), (1, .int (nI K))]) hx hb dX0_nextRound_18 rfl hl (by decide) rfl (fun ls hl => ?_)
      refine jg_loop (fun i ls => i ≤ E ∧ lv_has ls 4 [(0, .ref h0), (1, .int (nI K)), (2, .int (nI (jg_i i x))), (3, .int (nI i))]) (fun i => E - i) ?_ 0 ls ⟨by omega, lv_sub hl [2, 3, 1, 0] rfl⟩
      intro i ls hI ih
      obtain ⟨hi, hl⟩ := hI
      refine lv_iload_n hx hb dX0_nextRound_19 rfl (lv_at hl 3 rfl) ?_
      refine lv_ldc (v := 65535) hx hb hown (hts _ q26) dX0_nextRound_20 ?_
      refine lv_icmp_ge (tgt := 48) hx hb dX0_nextRound_22 (by decide) (fun c22 => ?_) (fun c22 => ?_)
      · exact absurd ((nI_leI (a := 65535) (by omega) (by omega)).mp c22) (by omega)
      · have hy := jg_i_lt (n := i) hx0
        have hy2 : jg_i i x % 2 ^ K ≤ jg_i i x := Nat.mod_le _ _
        refine lv_iload_n hx hb dX0_nextRound_25 rfl (lv_at hl 2 rfl) ?_
        refine lv_iconst (v := nI 1) hx hb dX0_nextRound_26 (by decide +kernel) ?_
        refine lv_iload_n hx hb dX0_nextRound_27 rfl (lv_at hl 1 rfl) ?_
        refine lv_ishl hx hb dX0_nextRound_28 ?_
        refine lv_iconst (v := nI 1) hx hb dX0_nextRound_29 (by decide +kernel) ?_
        refine lv_isub hx hb dX0_nextRound_30 ?_
        refine lv_iand hx hb dX0_nextRound_31 ?_
        refine jg_top (y := nI (jg_i i x % 2 ^ K)) (jg_msk hK8) ?_
        refine lv_if_ne (tgt := 37) hx hb dX0_nextRound_32 (by decide) (fun c32 => ?_) (fun c32 => ?_)
        · have hi9 : i < E := by rcases Nat.lt_or_ge i E with q | q; exact q; exact absurd (by rw [show i = E by omega, e2, nI_0]) c32
          refine lv_iload_n hx hb dX0_nextRound_37 rfl (lv_at hl 2 rfl) ?_
          refine vp_callSi (va_Run.run (va_runS (As := [.int (nI (jg_i i x))]) (rest := []) ⟨hx, hb, hml, hown, hts⟩ (c_X0_step l dC dI (jg_i i x) hy) (va_cwS 1 hts (lw_S q23 q24 q13 q25) rfl rfl rfl (by decide +kernel) ⟨Nat.le_of_ble_eq_true rfl, Nat.le_of_ble_eq_true rfl⟩) jg_preN rfl rfl hl.1 rfl (lv_room (Nat.le_of_ble_eq_true rfl)) dX0_nextRound_38 ⟨Nat.le_of_ble_eq_true rfl, Nat.le_of_ble_eq_true rfl⟩)) (fun r1 (e_r1 : r1 = nI (jg_T (jg_i i x))) => ?_)
          subst e_r1
          refine lv_istore_n (lv' := [(2, .int (nI (jg_T (jg_i i x)))), (0, .ref h0), (1, .int (nI K)), (3, .int (nI i))]) hx hb dX0_nextRound_41 rfl hl (by decide) rfl (fun ls hl => ?_)
          refine lv_iinc (v := nI (i + 1)) (lv' := [(3, .int (nI (i + 1))), (2, .int (nI (jg_T (jg_i i x)))), (0, .ref h0), (1, .int (nI K))]) hx hb dX0_nextRound_42 hl (k := 3) rfl (nI_1 i) (by decide) rfl (fun ls hl => ?_)
          refine lv_goto (tgt := 19) hx hb dX0_nextRound_45 (by decide) ?_
          exact ih (i + 1) ls (by omega) ⟨by omega, lv_sub hl [2, 3, 1, 0] rfl⟩
        · have hz : jg_i i x % 2 ^ K = 0 := (nI_eq (by omega) (by omega)).mp (c32.trans nI_0.symm)
          obtain rfl : i = E := by rcases Nat.lt_or_ge i E with q | q; exact absurd hz (e3 i q); omega
          refine lv_iload_n hx hb dX0_nextRound_35 rfl (lv_at hl 3 rfl) ?_
          exact W.iret (v := nI i) hx hb hr (fun t9 ht9 hW9 => ⟨nI i, rfl, hq.symm, ht9⟩) (fun q h => absurd h List.not_mem_nil) dX0_nextRound_36
    · refine lv_iconst (v := -1) hx hb dX0_nextRound_10 (by decide +kernel) ?_
      exact W.iret (v := (-1)) hx hb hr (fun t9 ht9 hW9 => ⟨(-1), rfl, (if_neg (fun q => c7 q.2)).symm, ht9⟩) (fun q h => absurd h List.not_mem_nil) dX0_nextRound_11
end
section
/-! JumpGeneratorModel: the methods that only read -/
def jg_qNear (n : Int32) : Int32 := if jg_nr n then 1 else 0
theorem jg_nearT {s : Int32} (h : ¬ jg_qNear s = 0) : jg_nr s := Classical.not_not.mp (fun q => h (if_neg q))
theorem jg_nearF {s : Int32} (h : jg_qNear s = 0) : ¬ jg_nr s := fun q => by
  rw [show jg_qNear s = 1 from if_pos q] at h
  exact absurd h (by decide)
theorem jg_backT {f : Nat → Int32} {s : Int32} (h : ¬ jg_qBack f s = 0) : jg_isM s ∧ f s.toNatClampNeg ≠ 0 := Classical.not_not.mp (fun q => h (if_neg q))
theorem jg_backF {f : Nat → Int32} {s : Int32} (h : jg_qBack f s = 0) : ¬ (jg_isM s ∧ f s.toNatClampNeg ≠ 0) := fun q => by
  rw [show jg_qBack f s = 1 from if_pos q] at h
  exact absurd h (by decide)
theorem jg_isM_7 {m : Int32} (h : ¬ m < 0) (h2 : ¬ nI 7 < m) : jg_isM m := by
  obtain ⟨j, h3, rfl⟩ := nI_of h
  rw [nI_ltI (by omega) h3] at h2
  exact ⟨nI_pos' h3, show nI j < nI 8 from nI_lt (by omega) (by omega)⟩
theorem jg_isM_n7 {m : Int32} (h2 : nI 7 < m) : ¬ jg_isM m := by
  intro h
  obtain ⟨j, h3, rfl⟩ := jg_isM_of h
  rw [nI_ltI (by omega) (by omega)] at h2
  omega
theorem jg_nr_of {n : Int32} (h : jg_nr n) : (∃ N : Nat, N ≤ 100000 ∧ n = nI N) ∨ ∃ N : Nat, 0 < N ∧ N ≤ 100000 ∧ n = -nI N := by
  by_cases h0 : n < 0
  · right
    have h1 := h.1
    rw [Int32.le_iff_toInt_le] at h1
    rw [Int32.lt_iff_toInt_lt] at h0
    have c : (0 : Int32).toInt = 0 := by decide
    have c2 : (-100000 : Int32).toInt = -100000 := by decide
    refine ⟨(-n.toInt).toNat, by omega, by omega, ?_⟩
    apply Int32.toInt_inj.mp
    rw [sb_negT (by omega)]
    omega
  · left
    exact nI_of2 (M := 100000) (n := 100000) (by decide) h0 h.2
theorem jg_nr_up {n : Int32} (h : jg_up n) : jg_nr n ∧ jg_nr (-n) ∧ (-n).toInt = -n.toInt := by
  obtain ⟨k, k0, rfl⟩ := jg_up_of h
  have e1 : (nI k).toInt = (k : Int) := nI_toInt (by omega)
  have e2 : (-nI k).toInt = -(k : Int) := sb_negT (by omega)
  have c : (100000 : Int32).toInt = 100000 := by decide
  have c2 : (-100000 : Int32).toInt = -100000 := by decide
  refine ⟨⟨?_, ?_⟩, ⟨?_, ?_⟩, by rw [e1, e2]⟩ <;> rw [Int32.le_iff_toInt_le] <;> omega
theorem jg_negs (j : Nat) : -nI j + Int32.ofInt (-1) = -nI (j + 1) := by
  rw [jg_dec, nI_succ, Int32.neg_add, Int32.sub_eq_add_neg]
theorem jg_d_per {x : Nat} (x0 : 0 < x) (h : x < 65536) : jg_d (jg_T x) x = 65534 := by
  have t0 : 0 < jg_T x := jg_pos (n := 1) x0 h
  have t1 : jg_T x < 65536 := jg_T_lt x
  obtain ⟨d1, d2⟩ := jg_d_spec t0 t1 x0 h
  refine jg_uni t0 t1 d1 (by omega) ?_
  rw [d2]
  have e : jg_i (65534 + 1) x = jg_i 65534 (jg_i 1 x) := jg_i_add 65534 1 x
  exact ((jg_per h).symm.trans e)
set_option maxHeartbeats 4000000 in
set_option maxRecDepth 100000 in
/-- isState(s) -/
theorem c_X1_isState (l : Launch) (dC : Nat → ClassId) (dI : Nat → Nat → Nat) (h0 : Nat) (s0 : Int32) : Met l yX1_isState (ws_ yX1_isState cX1_isState 2 (some .boolean)) ({ frames := 0, cells := 0, slots := 0, locals := 0 }) (va_Pc [.ref h0, .int s0] (fun _ => True)) (vp_Si (fun r => r = jg_qSeed s0)) 0 0 (fun _ => False) := by
  refine Met.ofW (cc := cX1_isState) (maxL := 2) (ret := (some .boolean)) (by decide) rfl ?_
  intro p e s m args below meth c s₁ B hml hv
  obtain ⟨rfl, -⟩ := hv
  have hx := B.exec
  have hb := B.bytes
  have hr := B.returns
  have hts := atoms_spec (ws := ws_ yX1_isState cX1_isState 2 (some .boolean)) B.pre
  have hts : ∀ w ∈ lw_all, w.before _ s = true := fun w h => hts w (List.mem_cons_of_mem _ h)
  have hown : s.vm.findClass RX1 = some m.cls := findClass_of_methodNamed B.named
  have hl := lv_entry ([.ref h0, .int s0]) (n := 2) (Nat.le_of_ble_eq_true rfl)
  rw [lg_entry_eq]
  generalize (lg_sl ([.ref h0, .int s0]) ++ List.replicate (2 - (lg_sl ([.ref h0, .int s0])).length) Slot.unset).toArray = ls at hl ⊢
  have hl : lv_has ls 2 [(0, .ref h0), (1, .int s0)] := hl
  refine lv_iload_n hx hb dX1_isState_0 rfl (lv_at hl 1 rfl) ?_
  refine lv_iconst (v := nI 1) hx hb dX1_isState_1 (by decide +kernel) ?_
  refine lv_icmp_lt (tgt := 15) hx hb dX1_isState_2 (by decide) (fun c2 => ?_) (fun c2 => ?_)
  · refine lv_iconst (v := nI 0) hx hb dX1_isState_15 (by decide +kernel) ?_
    exact W.zret (v := nI 0) hx hb hr rfl (fun t9 ht9 hW9 => ⟨nI 0, rfl, (if_neg (fun q => absurd q.1 (jg_nle c2))).symm, ht9⟩) (fun q h => absurd h List.not_mem_nil) dX1_isState_16
  · refine lv_iload_n hx hb dX1_isState_5 rfl (lv_at hl 1 rfl) ?_
    refine lv_ldc (v := 65535) hx hb hown (hts _ q151) dX1_isState_6 ?_
    refine lv_icmp_gt (tgt := 15) hx hb dX1_isState_8 (by decide) (fun c8 => ?_) (fun c8 => ?_)
    · refine lv_iconst (v := nI 0) hx hb dX1_isState_15 (by decide +kernel) ?_
      exact W.zret (v := nI 0) hx hb hr rfl (fun t9 ht9 hW9 => ⟨nI 0, rfl, (if_neg (fun q => absurd q.2 (jg_nle c8))).symm, ht9⟩) (fun q h => absurd h List.not_mem_nil) dX1_isState_16
    · refine lv_iconst (v := nI 1) hx hb dX1_isState_11 (by decide +kernel) ?_
      refine lv_goto (tgt := 16) hx hb dX1_isState_12 (by decide) ?_
      exact W.zret (v := nI 1) hx hb hr rfl (fun t9 ht9 hW9 => ⟨nI 1, rfl, (if_pos ⟨jg_ge c2, jg_ge c8⟩).symm, ht9⟩) (fun q h => absurd h List.not_mem_nil) dX1_isState_16
set_option maxHeartbeats 4000000 in
set_option maxRecDepth 100000 in
/-- near(n) -/
theorem c_X1_near (l : Launch) (dC : Nat → ClassId) (dI : Nat → Nat → Nat) (h0 : Nat) (s0 : Int32) : Met l yX1_near (ws_ yX1_near cX1_near 2 (some .boolean)) ({ frames := 0, cells := 0, slots := 0, locals := 0 }) (va_Pc [.ref h0, .int s0] (fun _ => True)) (vp_Si (fun r => r = jg_qNear s0)) 0 0 (fun _ => False) := by
  refine Met.ofW (cc := cX1_near) (maxL := 2) (ret := (some .boolean)) (by decide) rfl ?_
  intro p e s m args below meth c s₁ B hml hv
  obtain ⟨rfl, -⟩ := hv
  have hx := B.exec
  have hb := B.bytes
  have hr := B.returns
  have hts := atoms_spec (ws := ws_ yX1_near cX1_near 2 (some .boolean)) B.pre
  have hts : ∀ w ∈ lw_all, w.before _ s = true := fun w h => hts w (List.mem_cons_of_mem _ h)
  have hown : s.vm.findClass RX1 = some m.cls := findClass_of_methodNamed B.named
  have hl := lv_entry ([.ref h0, .int s0]) (n := 2) (Nat.le_of_ble_eq_true rfl)
  rw [lg_entry_eq]
  generalize (lg_sl ([.ref h0, .int s0]) ++ List.replicate (2 - (lg_sl ([.ref h0, .int s0])).length) Slot.unset).toArray = ls at hl ⊢
  have hl : lv_has ls 2 [(0, .ref h0), (1, .int s0)] := hl
  refine lv_iload_n hx hb dX1_near_0 rfl (lv_at hl 1 rfl) ?_
  refine lv_ldc (v := -100000) hx hb hown (hts _ q172) dX1_near_1 ?_
  refine lv_icmp_lt (tgt := 16) hx hb dX1_near_3 (by decide) (fun c3 => ?_) (fun c3 => ?_)
  · refine lv_iconst (v := nI 0) hx hb dX1_near_16 (by decide +kernel) ?_
    exact W.zret (v := nI 0) hx hb hr rfl (fun t9 ht9 hW9 => ⟨nI 0, rfl, (if_neg (fun q => absurd q.1 (jg_nle c3))).symm, ht9⟩) (fun q h => absurd h List.not_mem_nil) dX1_near_17
  · refine lv_iload_n hx hb dX1_near_6 rfl (lv_at hl 1 rfl) ?_
    refine lv_ldc (v := 100000) hx hb hown (hts _ q173) dX1_near_7 ?_
    refine lv_icmp_gt (tgt := 16) hx hb dX1_near_9 (by decide) (fun c9 => ?_) (fun c9 => ?_)
    · refine lv_iconst (v := nI 0) hx hb dX1_near_16 (by decide +kernel) ?_
      exact W.zret (v := nI 0) hx hb hr rfl (fun t9 ht9 hW9 => ⟨nI 0, rfl, (if_neg (fun q => absurd q.2 (jg_nle c9))).symm, ht9⟩) (fun q h => absurd h List.not_mem_nil) dX1_near_17
    · refine lv_iconst (v := nI 1) hx hb dX1_near_12 (by decide +kernel) ?_
      refine lv_goto (tgt := 17) hx hb dX1_near_13 (by decide) ?_
      exact W.zret (v := nI 1) hx hb hr rfl (fun t9 ht9 hW9 => ⟨nI 1, rfl, (if_pos ⟨jg_ge c3, jg_ge c9⟩).symm, ht9⟩) (fun q h => absurd h List.not_mem_nil) dX1_near_17
set_option maxHeartbeats 4000000 in
set_option maxRecDepth 100000 in
/-- step(x) -/
theorem c_X1_step (l : Launch) (dC : Nat → ClassId) (dI : Nat → Nat → Nat) (h0 x : Nat) (h : x < 65536) : Met l yX1_step (ws_ yX1_step cX1_step 4 (some .int)) ({ frames := 0, cells := 0, slots := 0, locals := 0 }) (va_Pc [.ref h0, .int (nI x)] (fun _ => True)) (vp_Si (fun r => r = nI (jg_T x))) 0 0 (fun _ => False) := by
  refine Met.ofW (cc := cX1_step) (maxL := 4) (ret := (some .int)) (by decide) rfl ?_
  intro p e s m args below meth c s₁ B hml hv
  obtain ⟨rfl, -⟩ := hv
  have hx := B.exec
  have hb := B.bytes
  have hr := B.returns
  have hts := atoms_spec (ws := ws_ yX1_step cX1_step 4 (some .int)) B.pre
  have hts : ∀ w ∈ lw_all, w.before _ s = true := fun w h => hts w (List.mem_cons_of_mem _ h)
  have hown : s.vm.findClass RX1 = some m.cls := findClass_of_methodNamed B.named
  have hl := lv_entry ([.ref h0, .int (nI x)]) (n := 4) (Nat.le_of_ble_eq_true rfl)
  rw [lg_entry_eq]
  generalize (lg_sl ([.ref h0, .int (nI x)]) ++ List.replicate (4 - (lg_sl ([.ref h0, .int (nI x)])).length) Slot.unset).toArray = ls at hl ⊢
  have hl : lv_has ls 4 [(0, .ref h0), (1, .int (nI x))] := hl
  refine lv_iload_n hx hb dX1_step_0 rfl (lv_at hl 1 rfl) ?_
  refine lv_iload_n hx hb dX1_step_1 rfl (lv_at hl 1 rfl) ?_
  refine lv_bipush (v := nI 7) hx hb dX1_step_2 (by decide +kernel) ?_
  refine lv_ishl hx hb dX1_step_4 ?_
  refine lv_ixor hx hb dX1_step_5 ?_
  refine lv_ldc (v := 65535) hx hb hown (hts _ q151) dX1_step_6 ?_
  refine lv_iand hx hb dX1_step_8 ?_
  refine jg_top (y := nI (jg_A x)) (jg_mA h) ?_
  refine lv_istore_n (lv' := [(2, .int (nI (jg_A x))), (0, .ref h0), (1, .int (nI x))]) hx hb dX1_step_9 rfl hl (by decide) rfl (fun ls hl => ?_)
  refine lv_iload_n hx hb dX1_step_10 rfl (lv_at hl 0 rfl) ?_
  refine lv_iload_n hx hb dX1_step_11 rfl (lv_at hl 0 rfl) ?_
  refine lv_bipush (v := nI 9) hx hb dX1_step_12 (by decide +kernel) ?_
  refine lv_ishr hx hb dX1_step_14 ?_
  refine lv_ixor hx hb dX1_step_15 ?_
  refine jg_top (y := nI (jg_B (jg_A x))) (jg_sB (jg_A_lt x)) ?_
  refine lv_istore_n (lv' := [(3, .int (nI (jg_B (jg_A x)))), (2, .int (nI (jg_A x))), (0, .ref h0), (1, .int (nI x))]) hx hb dX1_step_16 rfl hl (by decide) rfl (fun ls hl => ?_)
  refine lv_iload_n hx hb dX1_step_17 rfl (lv_at hl 0 rfl) ?_
  refine lv_iload_n hx hb dX1_step_18 rfl (lv_at hl 0 rfl) ?_
  refine lv_bipush (v := nI 8) hx hb dX1_step_19 (by decide +kernel) ?_
  refine lv_ishl hx hb dX1_step_21 ?_
  refine lv_ixor hx hb dX1_step_22 ?_
  refine lv_ldc (v := 65535) hx hb hown (hts _ q151) dX1_step_23 ?_
  refine lv_iand hx hb dX1_step_25 ?_
  refine jg_top (y := nI (jg_T x)) (jg_mC (jg_B_lt (jg_A_lt x))) ?_
  exact W.iret (v := nI (jg_T x)) hx hb hr (fun t9 ht9 hW9 => ⟨nI (jg_T x), rfl, rfl, ht9⟩) (fun q h => absurd h List.not_mem_nil) dX1_step_26
set_option maxHeartbeats 4000000 in
set_option maxRecDepth 100000 in
/-- stepBack(y) -/
theorem c_X1_stepBack (l : Launch) (dC : Nat → ClassId) (dI : Nat → Nat → Nat) (h0 x : Nat) (h : x < 65536) : Met l yX1_stepBack (ws_ yX1_stepBack cX1_stepBack 4 (some .int)) ({ frames := 0, cells := 0, slots := 0, locals := 0 }) (va_Pc [.ref h0, .int (nI x)] (fun _ => True)) (vp_Si (fun r => r = nI (jg_U x))) 0 0 (fun _ => False) := by
  refine Met.ofW (cc := cX1_stepBack) (maxL := 4) (ret := (some .int)) (by decide) rfl ?_
  intro p e s m args below meth c s₁ B hml hv
  obtain ⟨rfl, -⟩ := hv
  have hx := B.exec
  have hb := B.bytes
  have hr := B.returns
  have hts := atoms_spec (ws := ws_ yX1_stepBack cX1_stepBack 4 (some .int)) B.pre
  have hts : ∀ w ∈ lw_all, w.before _ s = true := fun w h => hts w (List.mem_cons_of_mem _ h)
  have hown : s.vm.findClass RX1 = some m.cls := findClass_of_methodNamed B.named
  have hl := lv_entry ([.ref h0, .int (nI x)]) (n := 4) (Nat.le_of_ble_eq_true rfl)
  rw [lg_entry_eq]
  generalize (lg_sl ([.ref h0, .int (nI x)]) ++ List.replicate (4 - (lg_sl ([.ref h0, .int (nI x)])).length) Slot.unset).toArray = ls at hl ⊢
  have hl : lv_has ls 4 [(0, .ref h0), (1, .int (nI x))] := hl
  refine lv_iload_n hx hb dX1_stepBack_0 rfl (lv_at hl 1 rfl) ?_
  refine lv_iload_n hx hb dX1_stepBack_1 rfl (lv_at hl 1 rfl) ?_
  refine lv_bipush (v := nI 8) hx hb dX1_stepBack_2 (by decide +kernel) ?_
  refine lv_ishl hx hb dX1_stepBack_4 ?_
  refine lv_ixor hx hb dX1_stepBack_5 ?_
  refine lv_ldc (v := 65535) hx hb hown (hts _ q151) dX1_stepBack_6 ?_
  refine lv_iand hx hb dX1_stepBack_8 ?_
  refine jg_top (y := nI (jg_C x)) (jg_mC h) ?_
  refine lv_istore_n (lv' := [(2, .int (nI (jg_C x))), (0, .ref h0), (1, .int (nI x))]) hx hb dX1_stepBack_9 rfl hl (by decide) rfl (fun ls hl => ?_)
  refine lv_iload_n hx hb dX1_stepBack_10 rfl (lv_at hl 0 rfl) ?_
  refine lv_iload_n hx hb dX1_stepBack_11 rfl (lv_at hl 0 rfl) ?_
  refine lv_bipush (v := nI 9) hx hb dX1_stepBack_12 (by decide +kernel) ?_
  refine lv_ishr hx hb dX1_stepBack_14 ?_
  refine lv_ixor hx hb dX1_stepBack_15 ?_
  refine jg_top (y := nI (jg_B (jg_C x))) (jg_sB (jg_C_lt x)) ?_
  refine lv_istore_n (lv' := [(3, .int (nI (jg_B (jg_C x)))), (2, .int (nI (jg_C x))), (0, .ref h0), (1, .int (nI x))]) hx hb dX1_stepBack_16 rfl hl (by decide) rfl (fun ls hl => ?_)
  refine lv_iload_n hx hb dX1_stepBack_17 rfl (lv_at hl 0 rfl) ?_
  refine lv_iload_n hx hb dX1_stepBack_18 rfl (lv_at hl 0 rfl) ?_
  refine lv_bipush (v := nI 7) hx hb dX1_stepBack_19 (by decide +kernel) ?_
  refine lv_ishl hx hb dX1_stepBack_21 ?_
  refine lv_ixor hx hb dX1_stepBack_22 ?_
  refine lv_iload_n hx hb dX1_stepBack_23 rfl (lv_at hl 0 rfl) ?_
  refine lv_bipush (v := nI 14) hx hb dX1_stepBack_24 (by decide +kernel) ?_
  refine lv_ishl hx hb dX1_stepBack_26 ?_
  refine lv_ixor hx hb dX1_stepBack_27 ?_
  refine lv_ldc (v := 65535) hx hb hown (hts _ q151) dX1_stepBack_28 ?_
  refine lv_iand hx hb dX1_stepBack_30 ?_
  refine jg_top (y := nI (jg_U x)) (jg_mD (jg_B_lt (jg_C_lt x))) ?_
  exact W.iret (v := nI (jg_U x)) hx hb hr (fun t9 ht9 hW9 => ⟨nI (jg_U x), rfl, rfl, ht9⟩) (fun q h => absurd h List.not_mem_nil) dX1_stepBack_31
set_option maxHeartbeats 4000000 in
set_option maxRecDepth 100000 in
/-- go(s, n) -/
theorem c_X1_go (l : Launch) (dC : Nat → ClassId) (dI : Nat → Nat → Nat) (h0 g1 : Nat) (cu : Int32) (x : Nat) (hx0 : x < 65536) (n : Int32) (hn : jg_nr n) : Met l yX1_go (ws_ yX1_go cX1_go 5 (some .int)) ({ frames := 1, cells := 0, slots := 0, locals := 23 }) (jg_Pr (dC, dI) [(h0, oM cu g1)] [] [.ref h0, .int (nI x), .int n]) (vp_Si (fun r => r = nI (jg_w x n.toInt))) 0 0 (fun _ => False) := by
  refine Met.ofW (cc := cX1_go) (maxL := 5) (ret := (some .int)) (by decide) rfl ?_
  intro p e s m args below meth c s₁ B hml hv
  obtain ⟨rfl, hP, hK⟩ := hv
  have hx := B.exec
  have hb := B.bytes
  have hr := B.returns
  have hts := atoms_spec (ws := ws_ yX1_go cX1_go 5 (some .int)) B.pre
  have hts : ∀ w ∈ lw_all, w.before _ s = true := fun w h => hts w (List.mem_cons_of_mem _ h)
  have hown : s.vm.findClass RX1 = some m.cls := findClass_of_methodNamed B.named
  have hl := lv_entry ([.ref h0, .int (nI x), .int n]) (n := 5) (Nat.le_of_ble_eq_true rfl)
  rw [lg_entry_eq]
  generalize (lg_sl ([.ref h0, .int (nI x), .int n]) ++ List.replicate (5 - (lg_sl ([.ref h0, .int (nI x), .int n])).length) Slot.unset).toArray = ls at hl ⊢
  have hl : lv_has ls 5 [(0, .ref h0), (1, .int (nI x)), (2, .int n)] := hl
  rcases jg_nr_of hn with ⟨N, hN, rfl⟩ | ⟨N, hN0, hN, rfl⟩
  · refine lv_iload_n hx hb dX1_go_0 rfl (lv_at hl 1 rfl) ?_
    refine lv_istore_n (lv' := [(3, .int (nI x)), (0, .ref h0), (1, .int (nI x)), (2, .int (nI N))]) hx hb dX1_go_1 rfl hl (by decide) rfl (fun ls hl => ?_)
    refine lv_iconst (v := nI 0) hx hb dX1_go_2 (by decide +kernel) ?_
    refine lv_istore (lv' := [(4, .int (nI 0)), (3, .int (nI x)), (0, .ref h0), (1, .int (nI x)), (2, .int (nI N))]) hx hb dX1_go_3 hl (by decide) rfl (fun ls hl => ?_)
    refine jg_loop (fun k ls => k ≤ N ∧ lv_has ls 5 [(0, .ref h0), (1, .int (nI x)), (2, .int (nI N)), (3, .int (nI (jg_i k x))), (4, .int (nI k))]) (fun k => N - k) ?_ 0 ls ⟨by omega, lv_sub hl [2, 3, 4, 1, 0] rfl⟩
    intro k ls hI ih
    obtain ⟨hi, hl⟩ := hI
    refine lv_iload hx hb dX1_go_5 (lv_at hl 4 rfl) ?_
    refine lv_iload_n hx hb dX1_go_7 rfl (lv_at hl 2 rfl) ?_
    refine lv_icmp_ge (tgt := 23) hx hb dX1_go_8 (by decide) (fun c8 => ?_) (fun c8 => ?_)
    · obtain rfl : k = N := by have q := (nI_leI (by omega) (by omega)).mp c8; omega
      refine lv_iconst (v := nI 0) hx hb dX1_go_23 (by decide +kernel) ?_
      refine lv_istore (lv' := [(4, .int (nI 0)), (0, .ref h0), (1, .int (nI x)), (2, .int (nI k)), (3, .int (nI (jg_i k x)))]) hx hb dX1_go_24 hl (by decide) rfl (fun ls hl => ?_)
      refine lv_iload hx hb dX1_go_26 (lv_at hl 0 rfl) ?_
      refine lv_iload_n hx hb dX1_go_28 rfl (lv_at hl 3 rfl) ?_
      refine lv_icmp_le (tgt := 44) hx hb dX1_go_29 (by decide) (fun c29 => ?_) (fun c29 => ?_)
      · refine lv_iload_n hx hb dX1_go_44 rfl (lv_at hl 4 rfl) ?_
        exact W.iret (v := nI (jg_i k x)) hx hb hr (fun t9 ht9 hW9 => ⟨nI (jg_i k x), rfl, by rw [nI_toInt (by omega), jg_w_fwd hx0], ht9⟩) (fun q h => absurd h List.not_mem_nil) dX1_go_45
      · exact absurd (nI_le (Nat.zero_le _) (by omega)) c29
    · have hi9 : k < N := Nat.lt_of_not_le (fun q => c8 ((nI_leI (by omega) (by omega)).mpr q))
      refine lv_aload_n hx hb dX1_go_11 rfl (lv_at hl 0 rfl) ?_
      refine lv_iload_n hx hb dX1_go_12 rfl (lv_at hl 3 rfl) ?_
      refine vp_callSi (va_Run.run (va_runV (As := [.int (nI (jg_i k x))]) (rest := []) ⟨hx, hb, hml, hown, hts⟩ (c_X1_step l dC dI h0 (jg_i k x) (jg_i_lt hx0)) (cwV 1 hts (lw_V q160 q162 qs6 q14 q163) rfl rfl rfl (by decide +kernel) ⟨Nat.le_of_ble_eq_true rfl, Nat.le_of_ble_eq_true rfl⟩) (jg_pre0 (ci := 1) (q0 := 0) hK hP rfl rfl rfl) rfl rfl hl.1 rfl (lv_room (Nat.le_of_ble_eq_true rfl)) dX1_go_13 ⟨Nat.le_of_ble_eq_true rfl, Nat.le_of_ble_eq_true rfl⟩)) (fun r1 (e_r1 : r1 = nI (jg_T (jg_i k x))) => ?_)
      subst e_r1
      refine lv_istore_n (lv' := [(3, .int (nI (jg_T (jg_i k x)))), (0, .ref h0), (1, .int (nI x)), (2, .int (nI N)), (4, .int (nI k))]) hx hb dX1_go_16 rfl hl (by decide) rfl (fun ls hl => ?_)
      refine lv_iinc (v := nI (k + 1)) (lv' := [(4, .int (nI (k + 1))), (3, .int (nI (jg_T (jg_i k x)))), (0, .ref h0), (1, .int (nI x)), (2, .int (nI N))]) hx hb dX1_go_17 hl (k := 4) rfl (nI_1 k) (by decide) rfl (fun ls hl => ?_)
      refine lv_goto (tgt := 5) hx hb dX1_go_20 (by decide) ?_
      exact ih (k + 1) ls (by omega) ⟨by omega, lv_sub hl [2, 3, 4, 1, 0] rfl⟩
  · refine lv_iload_n hx hb dX1_go_0 rfl (lv_at hl 1 rfl) ?_
    refine lv_istore_n (lv' := [(3, .int (nI x)), (0, .ref h0), (1, .int (nI x)), (2, .int (-nI N))]) hx hb dX1_go_1 rfl hl (by decide) rfl (fun ls hl => ?_)
    refine lv_iconst (v := nI 0) hx hb dX1_go_2 (by decide +kernel) ?_
    refine lv_istore (lv' := [(4, .int (nI 0)), (3, .int (nI x)), (0, .ref h0), (1, .int (nI x)), (2, .int (-nI N))]) hx hb dX1_go_3 hl (by decide) rfl (fun ls hl => ?_)
    refine lv_iload hx hb dX1_go_5 (lv_at hl 0 rfl) ?_
    refine lv_iload_n hx hb dX1_go_7 rfl (lv_at hl 4 rfl) ?_
    refine lv_icmp_ge (tgt := 23) hx hb dX1_go_8 (by decide) (fun c8 => ?_) (fun c8 => ?_)
    · refine lv_iconst (v := nI 0) hx hb dX1_go_23 (by decide +kernel) ?_
      refine lv_istore (lv' := [(4, .int (nI 0)), (3, .int (nI x)), (0, .ref h0), (1, .int (nI x)), (2, .int (-nI N))]) hx hb dX1_go_24 hl (by decide) rfl (fun ls hl => ?_)
      refine jg_loop (fun k ls => k ≤ N ∧ lv_has ls 5 [(0, .ref h0), (1, .int (nI x)), (2, .int (-nI N)), (3, .int (nI (jg_b k x))), (4, .int (-nI k))]) (fun k => N - k) ?_ 0 ls ⟨by omega, by rw [show -nI 0 = nI 0 by decide +kernel]; exact lv_sub hl [2, 3, 4, 1, 0] rfl⟩
      intro k ls hI ih
      obtain ⟨hi, hl⟩ := hI
      have hy : jg_b k x < 65536 := by rw [jg_b_eq hx0]; exact jg_i_lt hx0
      refine lv_iload hx hb dX1_go_26 (lv_at hl 4 rfl) ?_
      refine lv_iload_n hx hb dX1_go_28 rfl (lv_at hl 2 rfl) ?_
      refine lv_icmp_le (tgt := 44) hx hb dX1_go_29 (by decide) (fun c29 => ?_) (fun c29 => ?_)
      · obtain rfl : k = N := by have q := (sb_nle (by omega) (by omega)).mp c29; omega
        refine lv_iload_n hx hb dX1_go_44 rfl (lv_at hl 3 rfl) ?_
        exact W.iret (v := nI (jg_b k x)) hx hb hr (fun t9 ht9 hW9 => ⟨nI (jg_b k x), rfl, by rw [sb_negT (by omega), jg_w_bwd hx0], ht9⟩) (fun q h => absurd h List.not_mem_nil) dX1_go_45
      · have hi9 : k < N := Nat.lt_of_not_le (fun q => c29 ((sb_nle (by omega) (by omega)).mpr q))
        refine lv_aload_n hx hb dX1_go_32 rfl (lv_at hl 0 rfl) ?_
        refine lv_iload_n hx hb dX1_go_33 rfl (lv_at hl 3 rfl) ?_
        refine vp_callSi (va_Run.run (va_runV (As := [.int (nI (jg_b k x))]) (rest := []) ⟨hx, hb, hml, hown, hts⟩ (c_X1_stepBack l dC dI h0 (jg_b k x) hy) (cwV 1 hts (lw_V q178 q180 qs9 q14 q181) rfl rfl rfl (by decide +kernel) ⟨Nat.le_of_ble_eq_true rfl, Nat.le_of_ble_eq_true rfl⟩) (jg_pre0 (ci := 1) (q0 := 0) hK hP rfl rfl rfl) rfl rfl hl.1 rfl (lv_room (Nat.le_of_ble_eq_true rfl)) dX1_go_34 ⟨Nat.le_of_ble_eq_true rfl, Nat.le_of_ble_eq_true rfl⟩)) (fun r1 (e_r1 : r1 = nI (jg_U (jg_b k x))) => ?_)
        subst e_r1
        refine lv_istore_n (lv' := [(3, .int (nI (jg_U (jg_b k x)))), (0, .ref h0), (1, .int (nI x)), (2, .int (-nI N)), (4, .int (-nI k))]) hx hb dX1_go_37 rfl hl (by decide) rfl (fun ls hl => ?_)
        refine lv_iinc (v := -nI (k + 1)) (lv' := [(4, .int (-nI (k + 1))), (3, .int (nI (jg_U (jg_b k x)))), (0, .ref h0), (1, .int (nI x)), (2, .int (-nI N))]) hx hb dX1_go_38 hl (k := 4) rfl (jg_negs k) (by decide) rfl (fun ls hl => ?_)
        refine lv_goto (tgt := 26) hx hb dX1_go_41 (by decide) ?_
        exact ih (k + 1) ls (by omega) ⟨by omega, lv_sub hl [2, 3, 4, 1, 0] rfl⟩
    · exfalso
      apply c8
      rw [Int32.le_iff_toInt_le, sb_negT (by omega), nI_toInt (by omega)]
      omega
set_option maxHeartbeats 4000000 in
set_option maxRecDepth 100000 in
/-- state() -/
theorem c_X1_state (l : Launch) (dC : Nat → ClassId) (dI : Nat → Nat → Nat) (h0 g1 : Nat) (cu : Int32) : Met l yX1_state (ws_ yX1_state cX1_state 1 (some .int)) ({ frames := 0, cells := 0, slots := 0, locals := 0 }) (jg_Pr (dC, dI) [(h0, oM cu g1)] [] [.ref h0]) (vp_Si (fun r => r = cu)) 0 0 (fun _ => False) := by
  refine Met.ofW (cc := cX1_state) (maxL := 1) (ret := (some .int)) (by decide) rfl ?_
  intro p e s m args below meth c s₁ B hml hv
  obtain ⟨rfl, hP, hK⟩ := hv
  have hx := B.exec
  have hb := B.bytes
  have hr := B.returns
  have hts := atoms_spec (ws := ws_ yX1_state cX1_state 1 (some .int)) B.pre
  have hts : ∀ w ∈ lw_all, w.before _ s = true := fun w h => hts w (List.mem_cons_of_mem _ h)
  have hown : s.vm.findClass RX1 = some m.cls := findClass_of_methodNamed B.named
  have hl := lv_entry ([.ref h0]) (n := 1) (Nat.le_of_ble_eq_true rfl)
  rw [lg_entry_eq]
  generalize (lg_sl ([.ref h0]) ++ List.replicate (1 - (lg_sl ([.ref h0])).length) Slot.unset).toArray = ls at hl ⊢
  have hl : lv_has ls 1 [(0, .ref h0)] := hl
  refine lv_aload_n hx hb dX1_state_0 rfl (lv_at hl 0 rfl) ?_
  refine va_get (D := (dC, dI)) (ci := 1) (v := .int cu) (C := RX1) (T := TX1) (N := 2) hx hb hts in_X1 hown hK hP 0 rfl rfl 0 (by decide) (hts _ q136) (fun _ h9 => h9) rfl dX1_state_1 ?_
  exact W.iret (v := cu) hx hb hr (fun t9 ht9 hW9 => ⟨cu, rfl, rfl, ht9⟩) (fun q h => absurd h List.not_mem_nil) dX1_state_4
set_option maxHeartbeats 4000000 in
set_option maxRecDepth 100000 in
/-- peek(n) -/
theorem c_X1_peek (l : Launch) (dC : Nat → ClassId) (dI : Nat → Nat → Nat) (h0 g1 : Nat) (x : Nat) (hx0 : x < 65536) (n : Int32) : Met l yX1_peek (ws_ yX1_peek cX1_peek 2 (some .int)) ({ frames := 2, cells := 0, slots := 0, locals := 47 }) (jg_Pr (dC, dI) [(h0, oM (nI x) g1)] [] [.ref h0, .int n]) (vp_Si (fun r => r = jg_qJump x n)) 0 0 (fun _ => False) := by
  refine Met.ofW (cc := cX1_peek) (maxL := 2) (ret := (some .int)) (by decide) rfl ?_
  intro p e s m args below meth c s₁ B hml hv
  obtain ⟨rfl, hP, hK⟩ := hv
  have hx := B.exec
  have hb := B.bytes
  have hr := B.returns
  have hts := atoms_spec (ws := ws_ yX1_peek cX1_peek 2 (some .int)) B.pre
  have hts : ∀ w ∈ lw_all, w.before _ s = true := fun w h => hts w (List.mem_cons_of_mem _ h)
  have hown : s.vm.findClass RX1 = some m.cls := findClass_of_methodNamed B.named
  have hl := lv_entry ([.ref h0, .int n]) (n := 2) (Nat.le_of_ble_eq_true rfl)
  rw [lg_entry_eq]
  generalize (lg_sl ([.ref h0, .int n]) ++ List.replicate (2 - (lg_sl ([.ref h0, .int n])).length) Slot.unset).toArray = ls at hl ⊢
  have hl : lv_has ls 2 [(0, .ref h0), (1, .int n)] := hl
  refine lv_aload_n hx hb dX1_peek_0 rfl (lv_at hl 0 rfl) ?_
  refine lv_iload_n hx hb dX1_peek_1 rfl (lv_at hl 1 rfl) ?_
  refine vp_callSi (va_Run.run (va_runV (As := [.int n]) (rest := []) ⟨hx, hb, hml, hown, hts⟩ (c_X1_near l dC dI h0 n) (cwV 1 hts (lw_V q168 q170 qs7 q14 q171) rfl rfl rfl (by decide +kernel) ⟨Nat.le_of_ble_eq_true rfl, Nat.le_of_ble_eq_true rfl⟩) (jg_pre0 (ci := 1) (q0 := 0) hK hP rfl rfl rfl) rfl rfl hl.1 rfl (lv_room (Nat.le_of_ble_eq_true rfl)) dX1_peek_2 ⟨Nat.le_of_ble_eq_true rfl, Nat.le_of_ble_eq_true rfl⟩)) (fun r1 (e_r1 : r1 = jg_qNear n) => ?_)
  subst e_r1
  refine lv_if_eq (tgt := 20) hx hb dX1_peek_5 (by decide) (fun c5 => ?_) (fun c5 => ?_)
  · refine lv_iconst (v := -1) hx hb dX1_peek_20 (by decide +kernel) ?_
    exact W.iret (v := (-1)) hx hb hr (fun t9 ht9 hW9 => ⟨(-1), rfl, (if_neg (jg_nearF c5)).symm, ht9⟩) (fun q h => absurd h List.not_mem_nil) dX1_peek_21
  · refine lv_aload_n hx hb dX1_peek_8 rfl (lv_at hl 0 rfl) ?_
    refine lv_aload_n hx hb dX1_peek_9 rfl (lv_at hl 0 rfl) ?_
    refine va_get (D := (dC, dI)) (ci := 1) (v := .int (nI x)) (C := RX1) (T := TX1) (N := 2) hx hb hts in_X1 hown hK hP 0 rfl rfl 0 (by decide) (hts _ q136) (fun _ h9 => h9) rfl dX1_peek_10 ?_
    refine lv_iload_n hx hb dX1_peek_13 rfl (lv_at hl 1 rfl) ?_
    refine vp_callSi (va_Run.run (va_runV (As := [.int (nI x), .int n]) (rest := []) ⟨hx, hb, hml, hown, hts⟩ (c_X1_go l dC dI h0 g1 (nI x) x hx0 n (jg_nearT c5)) (cwV 2 hts (lw_V q174 q176 qs8 q14 q177) rfl rfl rfl (by decide +kernel) ⟨Nat.le_of_ble_eq_true rfl, Nat.le_of_ble_eq_true rfl⟩) (jg_preR (ci := 1) (q0 := 0) hK hP rfl rfl rfl (hP.sub [0] rfl) (hK.sub [] rfl)) rfl rfl hl.1 rfl (lv_room (Nat.le_of_ble_eq_true rfl)) dX1_peek_14 ⟨Nat.le_of_ble_eq_true rfl, Nat.le_of_ble_eq_true rfl⟩)) (fun r2 (e_r2 : r2 = nI (jg_w x n.toInt)) => ?_)
    subst e_r2
    refine lv_goto (tgt := 21) hx hb dX1_peek_17 (by decide) ?_
    exact W.iret (v := nI (jg_w x n.toInt)) hx hb hr (fun t9 ht9 hW9 => ⟨nI (jg_w x n.toInt), rfl, (if_pos (jg_nearT c5)).symm, ht9⟩) (fun q h => absurd h List.not_mem_nil) dX1_peek_21
set_option maxHeartbeats 4000000 in
set_option maxRecDepth 100000 in
/-- holds(m) -/
theorem c_X1_holds (l : Launch) (dC : Nat → ClassId) (dI : Nat → Nat → Nat) (h0 g1 : Nat) (e1 : ClassId) (cu : Int32) (f : Nat → Int32) (hf : jg_mk f) (a : Int32) : Met l yX1_holds (ws_ yX1_holds cX1_holds 2 (some .boolean)) ({ frames := 0, cells := 0, slots := 0, locals := 0 }) (jg_Pr (dC, dI) [(h0, oM cu g1), (g1, aI e1 8 f)] [(e1, .int)] [.ref h0, .int a]) (vp_Si (fun r => r = jg_qBack f a)) 0 0 (fun _ => False) := by
  refine Met.ofW (cc := cX1_holds) (maxL := 2) (ret := (some .boolean)) (by decide) rfl ?_
  intro p e s m args below meth c s₁ B hml hv
  obtain ⟨rfl, hP, hK⟩ := hv
  have hx := B.exec
  have hb := B.bytes
  have hr := B.returns
  have hts := atoms_spec (ws := ws_ yX1_holds cX1_holds 2 (some .boolean)) B.pre
  have hts : ∀ w ∈ lw_all, w.before _ s = true := fun w h => hts w (List.mem_cons_of_mem _ h)
  have hown : s.vm.findClass RX1 = some m.cls := findClass_of_methodNamed B.named
  have hl := lv_entry ([.ref h0, .int a]) (n := 2) (Nat.le_of_ble_eq_true rfl)
  rw [lg_entry_eq]
  generalize (lg_sl ([.ref h0, .int a]) ++ List.replicate (2 - (lg_sl ([.ref h0, .int a])).length) Slot.unset).toArray = ls at hl ⊢
  have hl : lv_has ls 2 [(0, .ref h0), (1, .int a)] := hl
  refine lv_iload_n hx hb dX1_holds_0 rfl (lv_at hl 1 rfl) ?_
  refine lv_if_lt (tgt := 23) hx hb dX1_holds_1 (by decide) (fun c1 => ?_) (fun c1 => ?_)
  · refine lv_iconst (v := nI 0) hx hb dX1_holds_23 (by decide +kernel) ?_
    exact W.zret (v := nI 0) hx hb hr rfl (fun t9 ht9 hW9 => ⟨nI 0, rfl, (if_neg (fun q => absurd q.1.1 (jg_nle c1))).symm, ht9⟩) (fun q h => absurd h List.not_mem_nil) dX1_holds_24
  · refine lv_iload_n hx hb dX1_holds_4 rfl (lv_at hl 1 rfl) ?_
    refine lv_bipush (v := nI 7) hx hb dX1_holds_5 (by decide +kernel) ?_
    refine lv_icmp_gt (tgt := 23) hx hb dX1_holds_7 (by decide) (fun c7 => ?_) (fun c7 => ?_)
    · refine lv_iconst (v := nI 0) hx hb dX1_holds_23 (by decide +kernel) ?_
      exact W.zret (v := nI 0) hx hb hr rfl (fun t9 ht9 hW9 => ⟨nI 0, rfl, (if_neg (fun q => jg_isM_n7 c7 q.1)).symm, ht9⟩) (fun q h => absurd h List.not_mem_nil) dX1_holds_24
    · have hM := jg_isM_7 c1 c7
      obtain ⟨M, hM8, rfl⟩ := jg_isM_of hM
      obtain ⟨v, hv, ev⟩ := hf M hM8
      have hcl : (nI M).toNatClampNeg = M := nI_clamp (by omega)
      refine lv_aload_n hx hb dX1_holds_10 rfl (lv_at hl 0 rfl) ?_
      refine va_get (D := (dC, dI)) (ci := 1) (v := .ref g1) (C := RX1) (T := TX1) (N := 2) hx hb hts in_X1 hown hK hP 0 rfl rfl 1 (by decide) (hts _ q137) (fun _ h9 => h9) rfl dX1_holds_11 ?_
      refine lv_iload_n hx hb dX1_holds_14 rfl (lv_at hl 1 rfl) ?_
      refine jg_iald (j := M) hx hb hK hP 1 0 rfl rfl hM8 (by decide) dX1_holds_15 ?_
      refine lv_if_le (tgt := 23) hx hb dX1_holds_16 (by decide) (fun c16 => ?_) (fun c16 => ?_)
      · refine lv_iconst (v := nI 0) hx hb dX1_holds_23 (by decide +kernel) ?_
        exact W.zret (v := nI 0) hx hb hr rfl (fun t9 ht9 hW9 => ⟨nI 0, rfl, (if_neg (fun q => by rw [hcl] at q; rw [ev] at c16 q; exact nI_nle (Nat.pos_of_ne_zero (fun z => q.2 (by rw [z, nI_0]))) (by omega) c16)).symm, ht9⟩) (fun q h => absurd h List.not_mem_nil) dX1_holds_24
      · refine lv_iconst (v := nI 1) hx hb dX1_holds_19 (by decide +kernel) ?_
        refine lv_goto (tgt := 24) hx hb dX1_holds_20 (by decide) ?_
        exact W.zret (v := nI 1) hx hb hr rfl (fun t9 ht9 hW9 => ⟨nI 1, rfl, (if_pos ⟨hM, by rw [hcl]; intro z; rw [z] at c16; exact absurd (by decide) c16⟩).symm, ht9⟩) (fun q h => absurd h List.not_mem_nil) dX1_holds_24
set_option maxHeartbeats 4000000 in
set_option maxRecDepth 100000 in
/-- steps(s, t) -/
theorem c_X1_steps (l : Launch) (dC : Nat → ClassId) (dI : Nat → Nat → Nat) (h0 g1 : Nat) (cu : Int32) (x y : Nat) (x0 : 0 < x) (hx0 : x < 65536) (y0 : 0 < y) (hy0 : y < 65536) : Met l yX1_steps (ws_ yX1_steps cX1_steps 5 (some .int)) ({ frames := 1, cells := 0, slots := 0, locals := 23 }) (jg_Pr (dC, dI) [(h0, oM cu g1)] [] [.ref h0, .int (nI x), .int (nI y)]) (vp_Si (fun r => r = nI (jg_d x y))) 0 0 (fun _ => False) := by
  refine Met.ofW (cc := cX1_steps) (maxL := 5) (ret := (some .int)) (by decide) rfl ?_
  intro p e s m args below meth c s₁ B hml hv
  obtain ⟨rfl, hP, hK⟩ := hv
  have hx := B.exec
  have hb := B.bytes
  have hr := B.returns
  have hts := atoms_spec (ws := ws_ yX1_steps cX1_steps 5 (some .int)) B.pre
  have hts : ∀ w ∈ lw_all, w.before _ s = true := fun w h => hts w (List.mem_cons_of_mem _ h)
  have hown : s.vm.findClass RX1 = some m.cls := findClass_of_methodNamed B.named
  have hl := lv_entry ([.ref h0, .int (nI x), .int (nI y)]) (n := 5) (Nat.le_of_ble_eq_true rfl)
  rw [lg_entry_eq]
  generalize (lg_sl ([.ref h0, .int (nI x), .int (nI y)]) ++ List.replicate (5 - (lg_sl ([.ref h0, .int (nI x), .int (nI y)])).length) Slot.unset).toArray = ls at hl ⊢
  have hl : lv_has ls 5 [(0, .ref h0), (1, .int (nI x)), (2, .int (nI y))] := hl
  obtain ⟨e1, e2⟩ := jg_d_spec x0 hx0 y0 hy0
  generalize jg_d x y = E at e1 e2 ⊢
  refine lv_iload_n hx hb dX1_steps_0 rfl (lv_at hl 1 rfl) ?_
  refine lv_istore_n (lv' := [(3, .int (nI x)), (0, .ref h0), (1, .int (nI x)), (2, .int (nI y))]) hx hb dX1_steps_1 rfl hl (by decide) rfl (fun ls hl => ?_)
  refine lv_iconst (v := nI 0) hx hb dX1_steps_2 (by decide +kernel) ?_
  refine lv_istore (lv' := [(4, .int (nI 0)), (3, .int (nI x)), (0, .ref h0), (1, .int (nI x)), (2, .int (nI y))]) hx hb dX1_steps_3 hl (by decide) rfl (fun ls hl => ?_)
  refine jg_loop (fun i ls => i ≤ E ∧ lv_has ls 5 [(0, .ref h0), (1, .int (nI x)), (2, .int (nI y)), (3, .int (nI (jg_i i x))), (4, .int (nI i))]) (fun i => E - i) ?_ 0 ls ⟨by omega, lv_sub hl [2, 3, 4, 1, 0] rfl⟩
  intro i ls hI ih
  obtain ⟨hi, hl⟩ := hI
  refine lv_iload hx hb dX1_steps_5 (lv_at hl 4 rfl) ?_
  refine lv_ldc (v := 65535) hx hb hown (hts _ q151) dX1_steps_7 ?_
  refine lv_icmp_ge (tgt := 32) hx hb dX1_steps_9 (by decide) (fun c9 => ?_) (fun c9 => ?_)
  · exact absurd ((nI_leI (a := 65535) (by omega) (by omega)).mp c9) (by omega)
  · refine lv_iload_n hx hb dX1_steps_12 rfl (lv_at hl 3 rfl) ?_
    refine lv_iload_n hx hb dX1_steps_13 rfl (lv_at hl 2 rfl) ?_
    refine lv_icmp_ne (tgt := 20) hx hb dX1_steps_14 (by decide) (fun c14 => ?_) (fun c14 => ?_)
    · have hi9 : i < E := by rcases Nat.lt_or_ge i E with q | q; exact q; exact absurd (by rw [show i = E by omega, e2]) c14
      refine lv_aload_n hx hb dX1_steps_20 rfl (lv_at hl 0 rfl) ?_
      refine lv_iload_n hx hb dX1_steps_21 rfl (lv_at hl 3 rfl) ?_
      refine vp_callSi (va_Run.run (va_runV (As := [.int (nI (jg_i i x))]) (rest := []) ⟨hx, hb, hml, hown, hts⟩ (c_X1_step l dC dI h0 (jg_i i x) (jg_i_lt hx0)) (cwV 1 hts (lw_V q160 q162 qs6 q14 q163) rfl rfl rfl (by decide +kernel) ⟨Nat.le_of_ble_eq_true rfl, Nat.le_of_ble_eq_true rfl⟩) (jg_pre0 (ci := 1) (q0 := 0) hK hP rfl rfl rfl) rfl rfl hl.1 rfl (lv_room (Nat.le_of_ble_eq_true rfl)) dX1_steps_22 ⟨Nat.le_of_ble_eq_true rfl, Nat.le_of_ble_eq_true rfl⟩)) (fun r1 (e_r1 : r1 = nI (jg_T (jg_i i x))) => ?_)
      subst e_r1
      refine lv_istore_n (lv' := [(3, .int (nI (jg_T (jg_i i x)))), (0, .ref h0), (1, .int (nI x)), (2, .int (nI y)), (4, .int (nI i))]) hx hb dX1_steps_25 rfl hl (by decide) rfl (fun ls hl => ?_)
      refine lv_iinc (v := nI (i + 1)) (lv' := [(4, .int (nI (i + 1))), (3, .int (nI (jg_T (jg_i i x)))), (0, .ref h0), (1, .int (nI x)), (2, .int (nI y))]) hx hb dX1_steps_26 hl (k := 4) rfl (nI_1 i) (by decide) rfl (fun ls hl => ?_)
      refine lv_goto (tgt := 5) hx hb dX1_steps_29 (by decide) ?_
      exact ih (i + 1) ls (by omega) ⟨by omega, lv_sub hl [2, 3, 4, 1, 0] rfl⟩
    · obtain rfl : i = E := jg_uni x0 hx0 (by omega) e1 ((jg_ninj (jg_i_lt hx0) hy0 c14).trans e2.symm)
      refine lv_iload hx hb dX1_steps_17 (lv_at hl 4 rfl) ?_
      exact W.iret (v := nI i) hx hb hr (fun t9 ht9 hW9 => ⟨nI i, rfl, rfl, ht9⟩) (fun q h => absurd h List.not_mem_nil) dX1_steps_19
set_option maxHeartbeats 4000000 in
set_option maxRecDepth 100000 in
/-- distance(s) -/
theorem c_X1_distance (l : Launch) (dC : Nat → ClassId) (dI : Nat → Nat → Nat) (h0 g1 : Nat) (x : Nat) (x0 : 0 < x) (hx0 : x < 65536) (a : Int32) : Met l yX1_distance (ws_ yX1_distance cX1_distance 2 (some .int)) ({ frames := 2, cells := 0, slots := 0, locals := 47 }) (jg_Pr (dC, dI) [(h0, oM (nI x) g1)] [] [.ref h0, .int a]) (vp_Si (fun r => r = jg_qDist x a)) 0 0 (fun _ => False) := by
  refine Met.ofW (cc := cX1_distance) (maxL := 2) (ret := (some .int)) (by decide) rfl ?_
  intro p e s m args below meth c s₁ B hml hv
  obtain ⟨rfl, hP, hK⟩ := hv
  have hx := B.exec
  have hb := B.bytes
  have hr := B.returns
  have hts := atoms_spec (ws := ws_ yX1_distance cX1_distance 2 (some .int)) B.pre
  have hts : ∀ w ∈ lw_all, w.before _ s = true := fun w h => hts w (List.mem_cons_of_mem _ h)
  have hown : s.vm.findClass RX1 = some m.cls := findClass_of_methodNamed B.named
  have hl := lv_entry ([.ref h0, .int a]) (n := 2) (Nat.le_of_ble_eq_true rfl)
  rw [lg_entry_eq]
  generalize (lg_sl ([.ref h0, .int a]) ++ List.replicate (2 - (lg_sl ([.ref h0, .int a])).length) Slot.unset).toArray = ls at hl ⊢
  have hl : lv_has ls 2 [(0, .ref h0), (1, .int a)] := hl
  refine lv_aload_n hx hb dX1_distance_0 rfl (lv_at hl 0 rfl) ?_
  refine lv_iload_n hx hb dX1_distance_1 rfl (lv_at hl 1 rfl) ?_
  refine vp_callSi (va_Run.run (va_runV (As := [.int a]) (rest := []) ⟨hx, hb, hml, hown, hts⟩ (c_X1_isState l dC dI h0 a) (cwV 1 hts (lw_V q147 q149 qs5 q14 q150) rfl rfl rfl (by decide +kernel) ⟨Nat.le_of_ble_eq_true rfl, Nat.le_of_ble_eq_true rfl⟩) (jg_pre0 (ci := 1) (q0 := 0) hK hP rfl rfl rfl) rfl rfl hl.1 rfl (lv_room (Nat.le_of_ble_eq_true rfl)) dX1_distance_2 ⟨Nat.le_of_ble_eq_true rfl, Nat.le_of_ble_eq_true rfl⟩)) (fun r1 (e_r1 : r1 = jg_qSeed a) => ?_)
  subst e_r1
  refine lv_if_eq (tgt := 20) hx hb dX1_distance_5 (by decide) (fun c5 => ?_) (fun c5 => ?_)
  · refine lv_iconst (v := -1) hx hb dX1_distance_20 (by decide +kernel) ?_
    exact W.iret (v := (-1)) hx hb hr (fun t9 ht9 hW9 => ⟨(-1), rfl, (if_neg (jg_seedF c5)).symm, ht9⟩) (fun q h => absurd h List.not_mem_nil) dX1_distance_21
  · have hs := jg_seedT c5
    have hq : jg_qDist x a = nI (jg_d x a.toNatClampNeg) := if_pos hs
    obtain ⟨y, y0, y1, rfl⟩ := jg_isS_of hs
    rw [nI_clamp (by omega)] at hq
    refine lv_aload_n hx hb dX1_distance_8 rfl (lv_at hl 0 rfl) ?_
    refine lv_aload_n hx hb dX1_distance_9 rfl (lv_at hl 0 rfl) ?_
    refine va_get (D := (dC, dI)) (ci := 1) (v := .int (nI x)) (C := RX1) (T := TX1) (N := 2) hx hb hts in_X1 hown hK hP 0 rfl rfl 0 (by decide) (hts _ q136) (fun _ h9 => h9) rfl dX1_distance_10 ?_
    refine lv_iload_n hx hb dX1_distance_13 rfl (lv_at hl 1 rfl) ?_
    refine vp_callSi (va_Run.run (va_runV (As := [.int (nI x), .int (nI y)]) (rest := []) ⟨hx, hb, hml, hown, hts⟩ (c_X1_steps l dC dI h0 g1 (nI x) x y x0 hx0 y0 y1) (cwV 2 hts (lw_V q202 q204 qs11 q14 q205) rfl rfl rfl (by decide +kernel) ⟨Nat.le_of_ble_eq_true rfl, Nat.le_of_ble_eq_true rfl⟩) (jg_preR (ci := 1) (q0 := 0) hK hP rfl rfl rfl (hP.sub [0] rfl) (hK.sub [] rfl)) rfl rfl hl.1 rfl (lv_room (Nat.le_of_ble_eq_true rfl)) dX1_distance_14 ⟨Nat.le_of_ble_eq_true rfl, Nat.le_of_ble_eq_true rfl⟩)) (fun r2 (e_r2 : r2 = nI (jg_d x y)) => ?_)
    subst e_r2
    refine lv_goto (tgt := 21) hx hb dX1_distance_17 (by decide) ?_
    exact W.iret (v := nI (jg_d x y)) hx hb hr (fun t9 ht9 hW9 => ⟨nI (jg_d x y), rfl, hq.symm, ht9⟩) (fun q h => absurd h List.not_mem_nil) dX1_distance_21
set_option maxHeartbeats 4000000 in
set_option maxRecDepth 100000 in
/-- between(m, n) -/
theorem c_X1_between (l : Launch) (dC : Nat → ClassId) (dI : Nat → Nat → Nat) (h0 g1 : Nat) (e1 : ClassId) (cu : Int32) (f : Nat → Int32) (hf : jg_mk f) (a b : Int32) : Met l yX1_between (ws_ yX1_between cX1_between 3 (some .int)) ({ frames := 2, cells := 0, slots := 0, locals := 47 }) (jg_Pr (dC, dI) [(h0, oM cu g1), (g1, aI e1 8 f)] [(e1, .int)] [.ref h0, .int a, .int b]) (vp_Si (fun r => r = jg_qBetw f a b)) 0 0 (fun _ => False) := by
  refine Met.ofW (cc := cX1_between) (maxL := 3) (ret := (some .int)) (by decide) rfl ?_
  intro p e s m args below meth c s₁ B hml hv
  obtain ⟨rfl, hP, hK⟩ := hv
  have hx := B.exec
  have hb := B.bytes
  have hr := B.returns
  have hts := atoms_spec (ws := ws_ yX1_between cX1_between 3 (some .int)) B.pre
  have hts : ∀ w ∈ lw_all, w.before _ s = true := fun w h => hts w (List.mem_cons_of_mem _ h)
  have hown : s.vm.findClass RX1 = some m.cls := findClass_of_methodNamed B.named
  have hl := lv_entry ([.ref h0, .int a, .int b]) (n := 3) (Nat.le_of_ble_eq_true rfl)
  rw [lg_entry_eq]
  generalize (lg_sl ([.ref h0, .int a, .int b]) ++ List.replicate (3 - (lg_sl ([.ref h0, .int a, .int b])).length) Slot.unset).toArray = ls at hl ⊢
  have hl : lv_has ls 3 [(0, .ref h0), (1, .int a), (2, .int b)] := hl
  refine lv_aload_n hx hb dX1_between_0 rfl (lv_at hl 0 rfl) ?_
  refine lv_iload_n hx hb dX1_between_1 rfl (lv_at hl 1 rfl) ?_
  refine vp_callSi (va_Run.run (va_runV (As := [.int a]) (rest := []) ⟨hx, hb, hml, hown, hts⟩ (c_X1_holds l dC dI h0 g1 e1 cu f hf a) (cwV 1 hts (lw_V q194 q196 qs10 q14 q197) rfl rfl rfl (by decide +kernel) ⟨Nat.le_of_ble_eq_true rfl, Nat.le_of_ble_eq_true rfl⟩) (jg_preR (ci := 1) (q0 := 0) hK hP rfl rfl rfl (hP.sub [0, 1] rfl) (hK.sub [0] rfl)) rfl rfl hl.1 rfl (lv_room (Nat.le_of_ble_eq_true rfl)) dX1_between_2 ⟨Nat.le_of_ble_eq_true rfl, Nat.le_of_ble_eq_true rfl⟩)) (fun r1 (e_r1 : r1 = jg_qBack f a) => ?_)
  subst e_r1
  refine lv_if_eq (tgt := 35) hx hb dX1_between_5 (by decide) (fun c5 => ?_) (fun c5 => ?_)
  · refine lv_iconst (v := -1) hx hb dX1_between_35 (by decide +kernel) ?_
    exact W.iret (v := (-1)) hx hb hr (fun t9 ht9 hW9 => ⟨(-1), rfl, (if_neg (fun q => jg_backF c5 ⟨q.1, q.2.2.1⟩)).symm, ht9⟩) (fun q h => absurd h List.not_mem_nil) dX1_between_36
  · have ha := jg_backT c5
    refine lv_aload_n hx hb dX1_between_8 rfl (lv_at hl 0 rfl) ?_
    refine lv_iload_n hx hb dX1_between_9 rfl (lv_at hl 2 rfl) ?_
    refine vp_callSi (va_Run.run (va_runV (As := [.int b]) (rest := []) ⟨hx, hb, hml, hown, hts⟩ (c_X1_holds l dC dI h0 g1 e1 cu f hf b) (cwV 1 hts (lw_V q194 q196 qs10 q14 q197) rfl rfl rfl (by decide +kernel) ⟨Nat.le_of_ble_eq_true rfl, Nat.le_of_ble_eq_true rfl⟩) (jg_preR (ci := 1) (q0 := 0) hK hP rfl rfl rfl (hP.sub [0, 1] rfl) (hK.sub [0] rfl)) rfl rfl hl.1 rfl (lv_room (Nat.le_of_ble_eq_true rfl)) dX1_between_10 ⟨Nat.le_of_ble_eq_true rfl, Nat.le_of_ble_eq_true rfl⟩)) (fun r2 (e_r2 : r2 = jg_qBack f b) => ?_)
    subst e_r2
    refine lv_if_eq (tgt := 35) hx hb dX1_between_13 (by decide) (fun c13 => ?_) (fun c13 => ?_)
    · refine lv_iconst (v := -1) hx hb dX1_between_35 (by decide +kernel) ?_
      exact W.iret (v := (-1)) hx hb hr (fun t9 ht9 hW9 => ⟨(-1), rfl, (if_neg (fun q => jg_backF c13 ⟨q.2.1, q.2.2.2⟩)).symm, ht9⟩) (fun q h => absurd h List.not_mem_nil) dX1_between_36
    · have hb2 := jg_backT c13
      have hq : jg_qBetw f a b = nI (jg_d (f a.toNatClampNeg).toNatClampNeg (f b.toNatClampNeg).toNatClampNeg) := if_pos ⟨ha.1, hb2.1, ha.2, hb2.2⟩
      obtain ⟨M, hM, rfl⟩ := jg_isM_of ha.1
      obtain ⟨N, hN, rfl⟩ := jg_isM_of hb2.1
      obtain ⟨y, y1, ey⟩ := hf M hM
      obtain ⟨z, z1, ez⟩ := hf N hN
      have ha2 := ha.2
      have hb3 := hb2.2
      rw [nI_clamp (show M < 2 ^ 31 by omega), ey] at ha2 hq
      rw [nI_clamp (show N < 2 ^ 31 by omega), ez] at hb3 hq
      rw [nI_clamp (show y < 2 ^ 31 by omega), nI_clamp (show z < 2 ^ 31 by omega)] at hq
      have y0 : 0 < y := Nat.pos_of_ne_zero (fun q => ha2 (by rw [q, nI_0]))
      have z0 : 0 < z := Nat.pos_of_ne_zero (fun q => hb3 (by rw [q, nI_0]))
      refine lv_aload_n hx hb dX1_between_16 rfl (lv_at hl 0 rfl) ?_
      refine lv_aload_n hx hb dX1_between_17 rfl (lv_at hl 0 rfl) ?_
      refine va_get (D := (dC, dI)) (ci := 1) (v := .ref g1) (C := RX1) (T := TX1) (N := 2) hx hb hts in_X1 hown hK hP 0 rfl rfl 1 (by decide) (hts _ q137) (fun _ h9 => h9) rfl dX1_between_18 ?_
      refine lv_iload_n hx hb dX1_between_21 rfl (lv_at hl 1 rfl) ?_
      refine jg_iald (j := M) hx hb hK hP 1 0 rfl rfl hM (by decide) dX1_between_22 ?_
      refine jg_top (y := nI y) ey ?_
      refine lv_aload_n hx hb dX1_between_23 rfl (lv_at hl 0 rfl) ?_
      refine va_get (D := (dC, dI)) (ci := 1) (v := .ref g1) (C := RX1) (T := TX1) (N := 2) hx hb hts in_X1 hown hK hP 0 rfl rfl 1 (by decide) (hts _ q137) (fun _ h9 => h9) rfl dX1_between_24 ?_
      refine lv_iload_n hx hb dX1_between_27 rfl (lv_at hl 2 rfl) ?_
      refine jg_iald (j := N) hx hb hK hP 1 0 rfl rfl hN (by decide) dX1_between_28 ?_
      refine jg_top (y := nI z) ez ?_
      refine vp_callSi (va_Run.run (va_runV (As := [.int (nI y), .int (nI z)]) (rest := []) ⟨hx, hb, hml, hown, hts⟩ (c_X1_steps l dC dI h0 g1 cu y z y0 y1 z0 z1) (cwV 2 hts (lw_V q202 q204 qs11 q14 q205) rfl rfl rfl (by decide +kernel) ⟨Nat.le_of_ble_eq_true rfl, Nat.le_of_ble_eq_true rfl⟩) (jg_preR (ci := 1) (q0 := 0) hK hP rfl rfl rfl (hP.sub [0] rfl) (hK.sub [] rfl)) rfl rfl hl.1 rfl (lv_room (Nat.le_of_ble_eq_true rfl)) dX1_between_29 ⟨Nat.le_of_ble_eq_true rfl, Nat.le_of_ble_eq_true rfl⟩)) (fun r3 (e_r3 : r3 = nI (jg_d y z)) => ?_)
      subst e_r3
      refine lv_goto (tgt := 36) hx hb dX1_between_32 (by decide) ?_
      exact W.iret (v := nI (jg_d y z)) hx hb hr (fun t9 ht9 hW9 => ⟨nI (jg_d y z), rfl, hq.symm, ht9⟩) (fun q h => absurd h List.not_mem_nil) dX1_between_36
set_option maxHeartbeats 4000000 in
set_option maxRecDepth 100000 in
/-- period() -/
theorem c_X1_period (l : Launch) (dC : Nat → ClassId) (dI : Nat → Nat → Nat) (h0 g1 : Nat) (x : Nat) (x0 : 0 < x) (hx0 : x < 65536) : Met l yX1_period (ws_ yX1_period cX1_period 2 (some .int)) ({ frames := 2, cells := 0, slots := 0, locals := 47 }) (jg_Pr (dC, dI) [(h0, oM (nI x) g1)] [] [.ref h0]) (vp_Si (fun r => r = 65535)) 0 0 (fun _ => False) := by
  refine Met.ofW (cc := cX1_period) (maxL := 2) (ret := (some .int)) (by decide) rfl ?_
  intro p e s m args below meth c s₁ B hml hv
  obtain ⟨rfl, hP, hK⟩ := hv
  have hx := B.exec
  have hb := B.bytes
  have hr := B.returns
  have hts := atoms_spec (ws := ws_ yX1_period cX1_period 2 (some .int)) B.pre
  have hts : ∀ w ∈ lw_all, w.before _ s = true := fun w h => hts w (List.mem_cons_of_mem _ h)
  have hown : s.vm.findClass RX1 = some m.cls := findClass_of_methodNamed B.named
  have hl := lv_entry ([.ref h0]) (n := 2) (Nat.le_of_ble_eq_true rfl)
  rw [lg_entry_eq]
  generalize (lg_sl ([.ref h0]) ++ List.replicate (2 - (lg_sl ([.ref h0])).length) Slot.unset).toArray = ls at hl ⊢
  have hl : lv_has ls 2 [(0, .ref h0)] := hl
  refine lv_aload_n hx hb dX1_period_0 rfl (lv_at hl 0 rfl) ?_
  refine lv_aload_n hx hb dX1_period_1 rfl (lv_at hl 0 rfl) ?_
  refine va_get (D := (dC, dI)) (ci := 1) (v := .int (nI x)) (C := RX1) (T := TX1) (N := 2) hx hb hts in_X1 hown hK hP 0 rfl rfl 0 (by decide) (hts _ q136) (fun _ h9 => h9) rfl dX1_period_2 ?_
  refine vp_callSi (va_Run.run (va_runV (As := [.int (nI x)]) (rest := []) ⟨hx, hb, hml, hown, hts⟩ (c_X1_step l dC dI h0 x hx0) (cwV 1 hts (lw_V q160 q162 qs6 q14 q163) rfl rfl rfl (by decide +kernel) ⟨Nat.le_of_ble_eq_true rfl, Nat.le_of_ble_eq_true rfl⟩) (jg_pre0 (ci := 1) (q0 := 0) hK hP rfl rfl rfl) rfl rfl hl.1 rfl (lv_room (Nat.le_of_ble_eq_true rfl)) dX1_period_5 ⟨Nat.le_of_ble_eq_true rfl, Nat.le_of_ble_eq_true rfl⟩)) (fun r1 (e_r1 : r1 = nI (jg_T x)) => ?_)
  subst e_r1
  refine lv_istore_n (lv' := [(1, .int (nI (jg_T x))), (0, .ref h0)]) hx hb dX1_period_8 rfl hl (by decide) rfl (fun ls hl => ?_)
  refine lv_aload_n hx hb dX1_period_9 rfl (lv_at hl 1 rfl) ?_
  refine lv_iload_n hx hb dX1_period_10 rfl (lv_at hl 0 rfl) ?_
  refine lv_aload_n hx hb dX1_period_11 rfl (lv_at hl 1 rfl) ?_
  refine va_get (D := (dC, dI)) (ci := 1) (v := .int (nI x)) (C := RX1) (T := TX1) (N := 2) hx hb hts in_X1 hown hK hP 0 rfl rfl 0 (by decide) (hts _ q136) (fun _ h9 => h9) rfl dX1_period_12 ?_
  refine vp_callSi (va_Run.run (va_runV (As := [.int (nI (jg_T x)), .int (nI x)]) (rest := []) ⟨hx, hb, hml, hown, hts⟩ (c_X1_steps l dC dI h0 g1 (nI x) (jg_T x) x (jg_pos (n := 1) x0 hx0) (jg_T_lt x) x0 hx0) (cwV 2 hts (lw_V q202 q204 qs11 q14 q205) rfl rfl rfl (by decide +kernel) ⟨Nat.le_of_ble_eq_true rfl, Nat.le_of_ble_eq_true rfl⟩) (jg_preR (ci := 1) (q0 := 0) hK hP rfl rfl rfl (hP.sub [0] rfl) (hK.sub [] rfl)) rfl rfl hl.1 rfl (lv_room (Nat.le_of_ble_eq_true rfl)) dX1_period_15 ⟨Nat.le_of_ble_eq_true rfl, Nat.le_of_ble_eq_true rfl⟩)) (fun r2 (e_r2 : r2 = nI (jg_d (jg_T x) x)) => ?_)
  subst e_r2
  refine lv_iconst (v := nI 1) hx hb dX1_period_18 (by decide +kernel) ?_
  refine lv_iadd hx hb dX1_period_19 ?_
  exact W.iret (v := (nI (jg_d (jg_T x) x)) + (nI 1)) hx hb hr (fun t9 ht9 hW9 => ⟨(nI (jg_d (jg_T x) x)) + (nI 1), rfl, by rw [jg_d_per x0 hx0]; decide +kernel, ht9⟩) (fun q h => absurd h List.not_mem_nil) dX1_period_20
set_option maxHeartbeats 4000000 in
set_option maxRecDepth 100000 in
/-- mixed(n) -/
theorem c_X1_mixed (l : Launch) (dC : Nat → ClassId) (dI : Nat → Nat → Nat) (h0 g1 : Nat) (x : Nat) (hx0 : x < 65536) (n : Int32) : Met l yX1_mixed (ws_ yX1_mixed cX1_mixed 5 (some .int)) ({ frames := 1, cells := 0, slots := 0, locals := 23 }) (jg_Pr (dC, dI) [(h0, oM (nI x) g1)] [] [.ref h0, .int n]) (vp_Si (fun r => r = jg_qMix x n)) 0 0 (fun _ => False) := by
  refine Met.ofW (cc := cX1_mixed) (maxL := 5) (ret := (some .int)) (by decide) rfl ?_
  intro p e s m args below meth c s₁ B hml hv
  obtain ⟨rfl, hP, hK⟩ := hv
  have hx := B.exec
  have hb := B.bytes
  have hr := B.returns
  have hts := atoms_spec (ws := ws_ yX1_mixed cX1_mixed 5 (some .int)) B.pre
  have hts : ∀ w ∈ lw_all, w.before _ s = true := fun w h => hts w (List.mem_cons_of_mem _ h)
  have hown : s.vm.findClass RX1 = some m.cls := findClass_of_methodNamed B.named
  have hl := lv_entry ([.ref h0, .int n]) (n := 5) (Nat.le_of_ble_eq_true rfl)
  rw [lg_entry_eq]
  generalize (lg_sl ([.ref h0, .int n]) ++ List.replicate (5 - (lg_sl ([.ref h0, .int n])).length) Slot.unset).toArray = ls at hl ⊢
  have hl : lv_has ls 5 [(0, .ref h0), (1, .int n)] := hl
  refine lv_aload_n hx hb dX1_mixed_0 rfl (lv_at hl 0 rfl) ?_
  refine va_get (D := (dC, dI)) (ci := 1) (v := .int (nI x)) (C := RX1) (T := TX1) (N := 2) hx hb hts in_X1 hown hK hP 0 rfl rfl 0 (by decide) (hts _ q136) (fun _ h9 => h9) rfl dX1_mixed_1 ?_
  refine lv_istore_n (lv' := [(2, .int (nI x)), (0, .ref h0), (1, .int n)]) hx hb dX1_mixed_4 rfl hl (by decide) rfl (fun ls hl => ?_)
  refine lv_iconst (v := nI 0) hx hb dX1_mixed_5 (by decide +kernel) ?_
  refine lv_istore_n (lv' := [(3, .int (nI 0)), (2, .int (nI x)), (0, .ref h0), (1, .int n)]) hx hb dX1_mixed_6 rfl hl (by decide) rfl (fun ls hl => ?_)
  refine lv_iconst (v := nI 0) hx hb dX1_mixed_7 (by decide +kernel) ?_
  refine lv_istore (lv' := [(4, .int (nI 0)), (3, .int (nI 0)), (2, .int (nI x)), (0, .ref h0), (1, .int n)]) hx hb dX1_mixed_8 hl (by decide) rfl (fun ls hl => ?_)
  by_cases hn : jg_up n
  · have hq : jg_qMix x n = nI (jg_S x n.toNatClampNeg) := if_pos hn
    obtain ⟨N, hN, rfl⟩ := jg_up_of hn
    rw [nI_clamp (by omega)] at hq
    refine jg_loop (fun k ls => k ≤ N ∧ lv_has ls 5 [(0, .ref h0), (1, .int (nI N)), (2, .int (nI (jg_i k x))), (3, .int (nI (jg_S x k))), (4, .int (nI k))]) (fun k => N - k) ?_ 0 ls ⟨by omega, lv_sub hl [3, 4, 2, 1, 0] rfl⟩
    intro k ls hI ih
    obtain ⟨hi, hl⟩ := hI
    refine lv_iload hx hb dX1_mixed_10 (lv_at hl 4 rfl) ?_
    refine lv_iload_n hx hb dX1_mixed_12 rfl (lv_at hl 1 rfl) ?_
    refine lv_icmp_ge (tgt := 38) hx hb dX1_mixed_13 (by decide) (fun c13 => ?_) (fun c13 => ?_)
    · obtain rfl : k = N := by have q := (nI_leI (by omega) (by omega)).mp c13; omega
      refine lv_iload_n hx hb dX1_mixed_38 rfl (lv_at hl 1 rfl) ?_
      refine lv_if_lt (tgt := 48) hx hb dX1_mixed_39 (by decide) (fun c39 => ?_) (fun c39 => ?_)
      · exact absurd c39 (nI_pos (by omega))
      · refine lv_iload_n hx hb dX1_mixed_42 rfl (lv_at hl 1 rfl) ?_
        refine lv_ldc (v := 100000) hx hb hown (hts _ q173) dX1_mixed_43 ?_
        refine lv_icmp_le (tgt := 52) hx hb dX1_mixed_45 (by decide) (fun c45 => ?_) (fun c45 => ?_)
        · refine lv_iload_n hx hb dX1_mixed_52 rfl (lv_at hl 3 rfl) ?_
          exact W.iret (v := nI (jg_S x k)) hx hb hr (fun t9 ht9 hW9 => ⟨nI (jg_S x k), rfl, hq.symm, ht9⟩) (fun q h => absurd h List.not_mem_nil) dX1_mixed_53
        · exact absurd hn.2 c45
    · have hi9 : k < N := Nat.lt_of_not_le (fun q => c13 ((nI_leI (by omega) (by omega)).mpr q))
      refine lv_iload_n hx hb dX1_mixed_16 rfl (lv_at hl 1 rfl) ?_
      refine lv_ldc (v := 100000) hx hb hown (hts _ q173) dX1_mixed_17 ?_
      refine lv_icmp_gt (tgt := 38) hx hb dX1_mixed_19 (by decide) (fun c19 => ?_) (fun c19 => ?_)
      · exact absurd hn.2 (jg_nle c19)
      · refine lv_iload_n hx hb dX1_mixed_22 rfl (lv_at hl 3 rfl) ?_
        refine lv_iload_n hx hb dX1_mixed_23 rfl (lv_at hl 2 rfl) ?_
        refine lv_ixor hx hb dX1_mixed_24 ?_
        refine jg_top (y := nI (jg_S x (k + 1))) (by rw [jg_xor]; rfl) ?_
        refine lv_istore_n (lv' := [(3, .int (nI (jg_S x (k + 1)))), (0, .ref h0), (1, .int (nI N)), (2, .int (nI (jg_i k x))), (4, .int (nI k))]) hx hb dX1_mixed_25 rfl hl (by decide) rfl (fun ls hl => ?_)
        refine lv_aload_n hx hb dX1_mixed_26 rfl (lv_at hl 1 rfl) ?_
        refine lv_iload_n hx hb dX1_mixed_27 rfl (lv_at hl 3 rfl) ?_
        refine vp_callSi (va_Run.run (va_runV (As := [.int (nI (jg_i k x))]) (rest := []) ⟨hx, hb, hml, hown, hts⟩ (c_X1_step l dC dI h0 (jg_i k x) (jg_i_lt hx0)) (cwV 1 hts (lw_V q160 q162 qs6 q14 q163) rfl rfl rfl (by decide +kernel) ⟨Nat.le_of_ble_eq_true rfl, Nat.le_of_ble_eq_true rfl⟩) (jg_pre0 (ci := 1) (q0 := 0) hK hP rfl rfl rfl) rfl rfl hl.1 rfl (lv_room (Nat.le_of_ble_eq_true rfl)) dX1_mixed_28 ⟨Nat.le_of_ble_eq_true rfl, Nat.le_of_ble_eq_true rfl⟩)) (fun r1 (e_r1 : r1 = nI (jg_T (jg_i k x))) => ?_)
        subst e_r1
        refine lv_istore_n (lv' := [(2, .int (nI (jg_T (jg_i k x)))), (3, .int (nI (jg_S x (k + 1)))), (0, .ref h0), (1, .int (nI N)), (4, .int (nI k))]) hx hb dX1_mixed_31 rfl hl (by decide) rfl (fun ls hl => ?_)
        refine lv_iinc (v := nI (k + 1)) (lv' := [(4, .int (nI (k + 1))), (2, .int (nI (jg_T (jg_i k x)))), (3, .int (nI (jg_S x (k + 1)))), (0, .ref h0), (1, .int (nI N))]) hx hb dX1_mixed_32 hl (k := 4) rfl (nI_1 k) (by decide) rfl (fun ls hl => ?_)
        refine lv_goto (tgt := 10) hx hb dX1_mixed_35 (by decide) ?_
        exact ih (k + 1) ls (by omega) ⟨by omega, lv_sub hl [3, 4, 1, 2, 0] rfl⟩
  · have hq : jg_qMix x n = -1 := if_neg hn
    refine lv_iload hx hb dX1_mixed_10 (lv_at hl 0 rfl) ?_
    refine lv_iload_n hx hb dX1_mixed_12 rfl (lv_at hl 4 rfl) ?_
    refine lv_icmp_ge (tgt := 38) hx hb dX1_mixed_13 (by decide) (fun c13 => ?_) (fun c13 => ?_)
    · refine lv_iload_n hx hb dX1_mixed_38 rfl (lv_at hl 4 rfl) ?_
      refine lv_if_lt (tgt := 48) hx hb dX1_mixed_39 (by decide) (fun c39 => ?_) (fun c39 => ?_)
      · refine lv_iconst (v := -1) hx hb dX1_mixed_48 (by decide +kernel) ?_
        refine lv_goto (tgt := 53) hx hb dX1_mixed_49 (by decide) ?_
        exact W.iret (v := (-1)) hx hb hr (fun t9 ht9 hW9 => ⟨(-1), rfl, hq.symm, ht9⟩) (fun q h => absurd h List.not_mem_nil) dX1_mixed_53
      · refine lv_iload_n hx hb dX1_mixed_42 rfl (lv_at hl 4 rfl) ?_
        refine lv_ldc (v := 100000) hx hb hown (hts _ q173) dX1_mixed_43 ?_
        refine lv_icmp_le (tgt := 52) hx hb dX1_mixed_45 (by decide) (fun c45 => ?_) (fun c45 => ?_)
        · exact absurd ⟨jg_ge c39, c45⟩ hn
        · refine lv_iconst (v := -1) hx hb dX1_mixed_48 (by decide +kernel) ?_
          refine lv_goto (tgt := 53) hx hb dX1_mixed_49 (by decide) ?_
          exact W.iret (v := (-1)) hx hb hr (fun t9 ht9 hW9 => ⟨(-1), rfl, hq.symm, ht9⟩) (fun q h => absurd h List.not_mem_nil) dX1_mixed_53
    · refine lv_iload_n hx hb dX1_mixed_16 rfl (lv_at hl 4 rfl) ?_
      refine lv_ldc (v := 100000) hx hb hown (hts _ q173) dX1_mixed_17 ?_
      refine lv_icmp_gt (tgt := 38) hx hb dX1_mixed_19 (by decide) (fun c19 => ?_) (fun c19 => ?_)
      · refine lv_iload_n hx hb dX1_mixed_38 rfl (lv_at hl 4 rfl) ?_
        refine lv_if_lt (tgt := 48) hx hb dX1_mixed_39 (by decide) (fun c39 => ?_) (fun c39 => ?_)
        · refine lv_iconst (v := -1) hx hb dX1_mixed_48 (by decide +kernel) ?_
          refine lv_goto (tgt := 53) hx hb dX1_mixed_49 (by decide) ?_
          exact W.iret (v := (-1)) hx hb hr (fun t9 ht9 hW9 => ⟨(-1), rfl, hq.symm, ht9⟩) (fun q h => absurd h List.not_mem_nil) dX1_mixed_53
        · refine lv_iload_n hx hb dX1_mixed_42 rfl (lv_at hl 4 rfl) ?_
          refine lv_ldc (v := 100000) hx hb hown (hts _ q173) dX1_mixed_43 ?_
          refine lv_icmp_le (tgt := 52) hx hb dX1_mixed_45 (by decide) (fun c45 => ?_) (fun c45 => ?_)
          · exact absurd ⟨jg_ge c39, c45⟩ hn
          · refine lv_iconst (v := -1) hx hb dX1_mixed_48 (by decide +kernel) ?_
            refine lv_goto (tgt := 53) hx hb dX1_mixed_49 (by decide) ?_
            exact W.iret (v := (-1)) hx hb hr (fun t9 ht9 hW9 => ⟨(-1), rfl, hq.symm, ht9⟩) (fun q h => absurd h List.not_mem_nil) dX1_mixed_53
      · exact absurd ⟨Int32.le_of_lt (jg_gt c13), jg_ge c19⟩ hn
set_option maxHeartbeats 4000000 in
set_option maxRecDepth 100000 in
/-- before(s, n) -/
theorem c_X1_before (l : Launch) (dC : Nat → ClassId) (dI : Nat → Nat → Nat) (h0 g1 : Nat) (cu a n : Int32) : Met l yX1_before (ws_ yX1_before cX1_before 3 (some .int)) ({ frames := 2, cells := 0, slots := 0, locals := 47 }) (jg_Pr (dC, dI) [(h0, oM cu g1)] [] [.ref h0, .int a, .int n]) (vp_Si (fun r => r = jg_qBef a n)) 0 0 (fun _ => False) := by
  refine Met.ofW (cc := cX1_before) (maxL := 3) (ret := (some .int)) (by decide) rfl ?_
  intro p e s m args below meth c s₁ B hml hv
  obtain ⟨rfl, hP, hK⟩ := hv
  have hx := B.exec
  have hb := B.bytes
  have hr := B.returns
  have hts := atoms_spec (ws := ws_ yX1_before cX1_before 3 (some .int)) B.pre
  have hts : ∀ w ∈ lw_all, w.before _ s = true := fun w h => hts w (List.mem_cons_of_mem _ h)
  have hown : s.vm.findClass RX1 = some m.cls := findClass_of_methodNamed B.named
  have hl := lv_entry ([.ref h0, .int a, .int n]) (n := 3) (Nat.le_of_ble_eq_true rfl)
  rw [lg_entry_eq]
  generalize (lg_sl ([.ref h0, .int a, .int n]) ++ List.replicate (3 - (lg_sl ([.ref h0, .int a, .int n])).length) Slot.unset).toArray = ls at hl ⊢
  have hl : lv_has ls 3 [(0, .ref h0), (1, .int a), (2, .int n)] := hl
  refine lv_aload_n hx hb dX1_before_0 rfl (lv_at hl 0 rfl) ?_
  refine lv_iload_n hx hb dX1_before_1 rfl (lv_at hl 1 rfl) ?_
  refine vp_callSi (va_Run.run (va_runV (As := [.int a]) (rest := []) ⟨hx, hb, hml, hown, hts⟩ (c_X1_isState l dC dI h0 a) (cwV 1 hts (lw_V q147 q149 qs5 q14 q150) rfl rfl rfl (by decide +kernel) ⟨Nat.le_of_ble_eq_true rfl, Nat.le_of_ble_eq_true rfl⟩) (jg_pre0 (ci := 1) (q0 := 0) hK hP rfl rfl rfl) rfl rfl hl.1 rfl (lv_room (Nat.le_of_ble_eq_true rfl)) dX1_before_2 ⟨Nat.le_of_ble_eq_true rfl, Nat.le_of_ble_eq_true rfl⟩)) (fun r1 (e_r1 : r1 = jg_qSeed a) => ?_)
  subst e_r1
  refine lv_if_eq (tgt := 28) hx hb dX1_before_5 (by decide) (fun c5 => ?_) (fun c5 => ?_)
  · refine lv_iconst (v := -1) hx hb dX1_before_28 (by decide +kernel) ?_
    exact W.iret (v := (-1)) hx hb hr (fun t9 ht9 hW9 => ⟨(-1), rfl, (if_neg (fun q => jg_seedF c5 q.1)).symm, ht9⟩) (fun q h => absurd h List.not_mem_nil) dX1_before_29
  · have hs := jg_seedT c5
    refine lv_iload_n hx hb dX1_before_8 rfl (lv_at hl 2 rfl) ?_
    refine lv_if_lt (tgt := 28) hx hb dX1_before_9 (by decide) (fun c9 => ?_) (fun c9 => ?_)
    · refine lv_iconst (v := -1) hx hb dX1_before_28 (by decide +kernel) ?_
      exact W.iret (v := (-1)) hx hb hr (fun t9 ht9 hW9 => ⟨(-1), rfl, (if_neg (fun q => absurd q.2.1 (jg_nle c9))).symm, ht9⟩) (fun q h => absurd h List.not_mem_nil) dX1_before_29
    · refine lv_iload_n hx hb dX1_before_12 rfl (lv_at hl 2 rfl) ?_
      refine lv_ldc (v := 100000) hx hb hown (hts _ q173) dX1_before_13 ?_
      refine lv_icmp_gt (tgt := 28) hx hb dX1_before_15 (by decide) (fun c15 => ?_) (fun c15 => ?_)
      · refine lv_iconst (v := -1) hx hb dX1_before_28 (by decide +kernel) ?_
        exact W.iret (v := (-1)) hx hb hr (fun t9 ht9 hW9 => ⟨(-1), rfl, (if_neg (fun q => absurd q.2.2 (jg_nle c15))).symm, ht9⟩) (fun q h => absurd h List.not_mem_nil) dX1_before_29
      · have hn : jg_up n := ⟨jg_ge c9, jg_ge c15⟩
        have hq : jg_qBef a n = nI (jg_w a.toNatClampNeg (-n.toInt)) := if_pos ⟨hs, hn⟩
        obtain ⟨n1, n2, n3⟩ := jg_nr_up hn
        obtain ⟨y, y0, y1, rfl⟩ := jg_isS_of hs
        rw [nI_clamp (by omega), ← n3] at hq
        refine lv_aload_n hx hb dX1_before_18 rfl (lv_at hl 0 rfl) ?_
        refine lv_iload_n hx hb dX1_before_19 rfl (lv_at hl 1 rfl) ?_
        refine lv_iload_n hx hb dX1_before_20 rfl (lv_at hl 2 rfl) ?_
        refine lv_ineg hx hb dX1_before_21 ?_
        refine vp_callSi (va_Run.run (va_runV (As := [.int (nI y), .int (-n)]) (rest := []) ⟨hx, hb, hml, hown, hts⟩ (c_X1_go l dC dI h0 g1 cu y y1 (-n) n2) (cwV 2 hts (lw_V q174 q176 qs8 q14 q177) rfl rfl rfl (by decide +kernel) ⟨Nat.le_of_ble_eq_true rfl, Nat.le_of_ble_eq_true rfl⟩) (jg_preR (ci := 1) (q0 := 0) hK hP rfl rfl rfl (hP.sub [0] rfl) (hK.sub [] rfl)) rfl rfl hl.1 rfl (lv_room (Nat.le_of_ble_eq_true rfl)) dX1_before_22 ⟨Nat.le_of_ble_eq_true rfl, Nat.le_of_ble_eq_true rfl⟩)) (fun r2 (e_r2 : r2 = nI (jg_w y (-n).toInt)) => ?_)
        subst e_r2
        refine lv_goto (tgt := 29) hx hb dX1_before_25 (by decide) ?_
        exact W.iret (v := nI (jg_w y (-n).toInt)) hx hb hr (fun t9 ht9 hW9 => ⟨nI (jg_w y (-n).toInt), rfl, hq.symm, ht9⟩) (fun q h => absurd h List.not_mem_nil) dX1_before_29
set_option maxHeartbeats 4000000 in
set_option maxRecDepth 100000 in
/-- apart(s, t, n) -/
theorem c_X1_apart (l : Launch) (dC : Nat → ClassId) (dI : Nat → Nat → Nat) (h0 g1 : Nat) (cu a b n : Int32) : Met l yX1_apart (ws_ yX1_apart cX1_apart 4 (some .int)) ({ frames := 2, cells := 0, slots := 0, locals := 47 }) (jg_Pr (dC, dI) [(h0, oM cu g1)] [] [.ref h0, .int a, .int b, .int n]) (vp_Si (fun r => r = jg_qApart a b n)) 0 0 (fun _ => False) := by
  refine Met.ofW (cc := cX1_apart) (maxL := 4) (ret := (some .int)) (by decide) rfl ?_
  intro p e s m args below meth c s₁ B hml hv
  obtain ⟨rfl, hP, hK⟩ := hv
  have hx := B.exec
  have hb := B.bytes
  have hr := B.returns
  have hts := atoms_spec (ws := ws_ yX1_apart cX1_apart 4 (some .int)) B.pre
  have hts : ∀ w ∈ lw_all, w.before _ s = true := fun w h => hts w (List.mem_cons_of_mem _ h)
  have hown : s.vm.findClass RX1 = some m.cls := findClass_of_methodNamed B.named
  have hl := lv_entry ([.ref h0, .int a, .int b, .int n]) (n := 4) (Nat.le_of_ble_eq_true rfl)
  rw [lg_entry_eq]
  generalize (lg_sl ([.ref h0, .int a, .int b, .int n]) ++ List.replicate (4 - (lg_sl ([.ref h0, .int a, .int b, .int n])).length) Slot.unset).toArray = ls at hl ⊢
  have hl : lv_has ls 4 [(0, .ref h0), (1, .int a), (2, .int b), (3, .int n)] := hl
  refine lv_aload_n hx hb dX1_apart_0 rfl (lv_at hl 0 rfl) ?_
  refine lv_iload_n hx hb dX1_apart_1 rfl (lv_at hl 1 rfl) ?_
  refine vp_callSi (va_Run.run (va_runV (As := [.int a]) (rest := []) ⟨hx, hb, hml, hown, hts⟩ (c_X1_isState l dC dI h0 a) (cwV 1 hts (lw_V q147 q149 qs5 q14 q150) rfl rfl rfl (by decide +kernel) ⟨Nat.le_of_ble_eq_true rfl, Nat.le_of_ble_eq_true rfl⟩) (jg_pre0 (ci := 1) (q0 := 0) hK hP rfl rfl rfl) rfl rfl hl.1 rfl (lv_room (Nat.le_of_ble_eq_true rfl)) dX1_apart_2 ⟨Nat.le_of_ble_eq_true rfl, Nat.le_of_ble_eq_true rfl⟩)) (fun r1 (e_r1 : r1 = jg_qSeed a) => ?_)
  subst e_r1
  refine lv_if_eq (tgt := 42) hx hb dX1_apart_5 (by decide) (fun c5 => ?_) (fun c5 => ?_)
  · refine lv_iconst (v := -1) hx hb dX1_apart_42 (by decide +kernel) ?_
    exact W.iret (v := (-1)) hx hb hr (fun t9 ht9 hW9 => ⟨(-1), rfl, (if_neg (fun q => jg_seedF c5 q.1)).symm, ht9⟩) (fun q h => absurd h List.not_mem_nil) dX1_apart_43
  · have hs := jg_seedT c5
    refine lv_aload_n hx hb dX1_apart_8 rfl (lv_at hl 0 rfl) ?_
    refine lv_iload_n hx hb dX1_apart_9 rfl (lv_at hl 2 rfl) ?_
    refine vp_callSi (va_Run.run (va_runV (As := [.int b]) (rest := []) ⟨hx, hb, hml, hown, hts⟩ (c_X1_isState l dC dI h0 b) (cwV 1 hts (lw_V q147 q149 qs5 q14 q150) rfl rfl rfl (by decide +kernel) ⟨Nat.le_of_ble_eq_true rfl, Nat.le_of_ble_eq_true rfl⟩) (jg_pre0 (ci := 1) (q0 := 0) hK hP rfl rfl rfl) rfl rfl hl.1 rfl (lv_room (Nat.le_of_ble_eq_true rfl)) dX1_apart_10 ⟨Nat.le_of_ble_eq_true rfl, Nat.le_of_ble_eq_true rfl⟩)) (fun r2 (e_r2 : r2 = jg_qSeed b) => ?_)
    subst e_r2
    refine lv_if_eq (tgt := 42) hx hb dX1_apart_13 (by decide) (fun c13 => ?_) (fun c13 => ?_)
    · refine lv_iconst (v := -1) hx hb dX1_apart_42 (by decide +kernel) ?_
      exact W.iret (v := (-1)) hx hb hr (fun t9 ht9 hW9 => ⟨(-1), rfl, (if_neg (fun q => jg_seedF c13 q.2.1)).symm, ht9⟩) (fun q h => absurd h List.not_mem_nil) dX1_apart_43
    · have ht := jg_seedT c13
      refine lv_iload_n hx hb dX1_apart_16 rfl (lv_at hl 3 rfl) ?_
      refine lv_if_lt (tgt := 42) hx hb dX1_apart_17 (by decide) (fun c17 => ?_) (fun c17 => ?_)
      · refine lv_iconst (v := -1) hx hb dX1_apart_42 (by decide +kernel) ?_
        exact W.iret (v := (-1)) hx hb hr (fun t9 ht9 hW9 => ⟨(-1), rfl, (if_neg (fun q => absurd q.2.2.1 (jg_nle c17))).symm, ht9⟩) (fun q h => absurd h List.not_mem_nil) dX1_apart_43
      · refine lv_iload_n hx hb dX1_apart_20 rfl (lv_at hl 3 rfl) ?_
        refine lv_ldc (v := 100000) hx hb hown (hts _ q173) dX1_apart_21 ?_
        refine lv_icmp_gt (tgt := 42) hx hb dX1_apart_23 (by decide) (fun c23 => ?_) (fun c23 => ?_)
        · refine lv_iconst (v := -1) hx hb dX1_apart_42 (by decide +kernel) ?_
          exact W.iret (v := (-1)) hx hb hr (fun t9 ht9 hW9 => ⟨(-1), rfl, (if_neg (fun q => absurd q.2.2.2 (jg_nle c23))).symm, ht9⟩) (fun q h => absurd h List.not_mem_nil) dX1_apart_43
        · have hn : jg_up n := ⟨jg_ge c17, jg_ge c23⟩
          have hq : jg_qApart a b n = nI (jg_w (a.toNatClampNeg ^^^ b.toNatClampNeg) n.toInt) := if_pos ⟨hs, ht, hn⟩
          obtain ⟨n1, n2, n3⟩ := jg_nr_up hn
          obtain ⟨y, y0, y1, rfl⟩ := jg_isS_of hs
          obtain ⟨z, z0, z1, rfl⟩ := jg_isS_of ht
          rw [nI_clamp (show y < 2 ^ 31 by omega), nI_clamp (show z < 2 ^ 31 by omega)] at hq
          refine lv_aload_n hx hb dX1_apart_26 rfl (lv_at hl 0 rfl) ?_
          refine lv_iload_n hx hb dX1_apart_27 rfl (lv_at hl 1 rfl) ?_
          refine lv_iload_n hx hb dX1_apart_28 rfl (lv_at hl 3 rfl) ?_
          refine vp_callSi (va_Run.run (va_runV (As := [.int (nI y), .int n]) (rest := []) ⟨hx, hb, hml, hown, hts⟩ (c_X1_go l dC dI h0 g1 cu y y1 n n1) (cwV 2 hts (lw_V q174 q176 qs8 q14 q177) rfl rfl rfl (by decide +kernel) ⟨Nat.le_of_ble_eq_true rfl, Nat.le_of_ble_eq_true rfl⟩) (jg_preR (ci := 1) (q0 := 0) hK hP rfl rfl rfl (hP.sub [0] rfl) (hK.sub [] rfl)) rfl rfl hl.1 rfl (lv_room (Nat.le_of_ble_eq_true rfl)) dX1_apart_29 ⟨Nat.le_of_ble_eq_true rfl, Nat.le_of_ble_eq_true rfl⟩)) (fun r3 (e_r3 : r3 = nI (jg_w y n.toInt)) => ?_)
          subst e_r3
          refine lv_aload_n hx hb dX1_apart_32 rfl (lv_at hl 0 rfl) ?_
          refine lv_iload_n hx hb dX1_apart_33 rfl (lv_at hl 2 rfl) ?_
          refine lv_iload_n hx hb dX1_apart_34 rfl (lv_at hl 3 rfl) ?_
          refine vp_callSi (va_Run.run (va_runV (As := [.int (nI z), .int n]) (rest := [.int (nI (jg_w y n.toInt))]) ⟨hx, hb, hml, hown, hts⟩ (c_X1_go l dC dI h0 g1 cu z z1 n n1) (cwV 2 hts (lw_V q174 q176 qs8 q14 q177) rfl rfl rfl (by decide +kernel) ⟨Nat.le_of_ble_eq_true rfl, Nat.le_of_ble_eq_true rfl⟩) (jg_preR (ci := 1) (q0 := 0) hK hP rfl rfl rfl (hP.sub [0] rfl) (hK.sub [] rfl)) rfl rfl hl.1 rfl (lv_room (Nat.le_of_ble_eq_true rfl)) dX1_apart_35 ⟨Nat.le_of_ble_eq_true rfl, Nat.le_of_ble_eq_true rfl⟩)) (fun r4 (e_r4 : r4 = nI (jg_w z n.toInt)) => ?_)
          subst e_r4
          refine lv_ixor hx hb dX1_apart_38 ?_
          refine jg_top (y := nI (jg_w (y ^^^ z) n.toInt)) (by rw [jg_xor, jg_w_xor]) ?_
          refine lv_goto (tgt := 43) hx hb dX1_apart_39 (by decide) ?_
          exact W.iret (v := nI (jg_w (y ^^^ z) n.toInt)) hx hb hr (fun t9 ht9 hW9 => ⟨nI (jg_w (y ^^^ z) n.toInt), rfl, hq.symm, ht9⟩) (fun q h => absurd h List.not_mem_nil) dX1_apart_43
set_option maxHeartbeats 4000000 in
set_option maxRecDepth 100000 in
/-- nextRound(k) -/
theorem c_X1_nextRound (l : Launch) (dC : Nat → ClassId) (dI : Nat → Nat → Nat) (h0 g1 : Nat) (x : Nat) (x0 : 0 < x) (hx0 : x < 65536) (k : Int32) : Met l yX1_nextRound (ws_ yX1_nextRound cX1_nextRound 4 (some .int)) ({ frames := 1, cells := 0, slots := 0, locals := 23 }) (jg_Pr (dC, dI) [(h0, oM (nI x) g1)] [] [.ref h0, .int k]) (vp_Si (fun r => r = jg_qNext x k)) 0 0 (fun _ => False) := by
  refine Met.ofW (cc := cX1_nextRound) (maxL := 4) (ret := (some .int)) (by decide) rfl ?_
  intro p e s m args below meth c s₁ B hml hv
  obtain ⟨rfl, hP, hK⟩ := hv
  have hx := B.exec
  have hb := B.bytes
  have hr := B.returns
  have hts := atoms_spec (ws := ws_ yX1_nextRound cX1_nextRound 4 (some .int)) B.pre
  have hts : ∀ w ∈ lw_all, w.before _ s = true := fun w h => hts w (List.mem_cons_of_mem _ h)
  have hown : s.vm.findClass RX1 = some m.cls := findClass_of_methodNamed B.named
  have hl := lv_entry ([.ref h0, .int k]) (n := 4) (Nat.le_of_ble_eq_true rfl)
  rw [lg_entry_eq]
  generalize (lg_sl ([.ref h0, .int k]) ++ List.replicate (4 - (lg_sl ([.ref h0, .int k])).length) Slot.unset).toArray = ls at hl ⊢
  have hl : lv_has ls 4 [(0, .ref h0), (1, .int k)] := hl
  refine lv_aload_n hx hb dX1_nextRound_0 rfl (lv_at hl 0 rfl) ?_
  refine va_get (D := (dC, dI)) (ci := 1) (v := .int (nI x)) (C := RX1) (T := TX1) (N := 2) hx hb hts in_X1 hown hK hP 0 rfl rfl 0 (by decide) (hts _ q136) (fun _ h9 => h9) rfl dX1_nextRound_1 ?_
  refine lv_istore_n (lv' := [(2, .int (nI x)), (0, .ref h0), (1, .int k)]) hx hb dX1_nextRound_4 rfl hl (by decide) rfl (fun ls hl => ?_)
  refine lv_iconst (v := nI 0) hx hb dX1_nextRound_5 (by decide +kernel) ?_
  refine lv_istore_n (lv' := [(3, .int (nI 0)), (2, .int (nI x)), (0, .ref h0), (1, .int k)]) hx hb dX1_nextRound_6 rfl hl (by decide) rfl (fun ls hl => ?_)
  by_cases hk : 0 ≤ k ∧ k ≤ 8
  · have hq : jg_qNext x k = nI (jg_e x k.toNatClampNeg) := if_pos hk
    obtain ⟨K, hK8, eK⟩ := nI_of2 (x := k) (M := 8) (n := 8) (by decide) (jg_nlt hk.1) hk.2
    subst eK
    rw [nI_clamp (by omega)] at hq
    obtain ⟨e1, e2, e3⟩ := jg_e_spec x0 hx0 hK8
    generalize jg_e x K = E at e1 e2 e3 hq
    refine jg_loop (fun i ls => i ≤ E ∧ lv_has ls 4 [(0, .ref h0), (1, .int (nI K)), (2, .int (nI (jg_i i x))), (3, .int (nI i))]) (fun i => E - i) ?_ 0 ls ⟨by omega, lv_sub hl [2, 3, 1, 0] rfl⟩
    intro i ls hI ih
    obtain ⟨hi, hl⟩ := hI
    refine lv_iload_n hx hb dX1_nextRound_7 rfl (lv_at hl 3 rfl) ?_
    refine lv_ldc (v := 100000) hx hb hown (hts _ q173) dX1_nextRound_8 ?_
    refine lv_icmp_gt (tgt := 47) hx hb dX1_nextRound_10 (by decide) (fun c10 => ?_) (fun c10 => ?_)
    · exact absurd ((nI_ltI (a := 100000) (by omega) (by omega)).mp c10) (by omega)
    · refine lv_iload_n hx hb dX1_nextRound_13 rfl (lv_at hl 1 rfl) ?_
      refine lv_if_lt (tgt := 47) hx hb dX1_nextRound_14 (by decide) (fun c14 => ?_) (fun c14 => ?_)
      · exact absurd c14 (nI_pos (by omega))
      · refine lv_iload_n hx hb dX1_nextRound_17 rfl (lv_at hl 1 rfl) ?_
        refine lv_bipush (v := nI 8) hx hb dX1_nextRound_18 (by decide +kernel) ?_
        refine lv_icmp_gt (tgt := 47) hx hb dX1_nextRound_20 (by decide) (fun c20 => ?_) (fun c20 => ?_)
        · exact absurd hk.2 (jg_nle c20)
        · have hy := jg_i_lt (n := i) hx0
          have hy2 : jg_i i x % 2 ^ K ≤ jg_i i x := Nat.mod_le _ _
          refine lv_iload_n hx hb dX1_nextRound_23 rfl (lv_at hl 2 rfl) ?_
          refine lv_iconst (v := nI 1) hx hb dX1_nextRound_24 (by decide +kernel) ?_
          refine lv_iload_n hx hb dX1_nextRound_25 rfl (lv_at hl 1 rfl) ?_
          refine lv_ishl hx hb dX1_nextRound_26 ?_
          refine lv_iconst (v := nI 1) hx hb dX1_nextRound_27 (by decide +kernel) ?_
          refine lv_isub hx hb dX1_nextRound_28 ?_
          refine lv_iand hx hb dX1_nextRound_29 ?_
          refine jg_top (y := nI (jg_i i x % 2 ^ K)) (jg_msk hK8) ?_
          refine lv_if_ne (tgt := 35) hx hb dX1_nextRound_30 (by decide) (fun c30 => ?_) (fun c30 => ?_)
          · have hi9 : i < E := by rcases Nat.lt_or_ge i E with q | q; exact q; exact absurd (by rw [show i = E by omega, e2, nI_0]) c30
            refine lv_aload_n hx hb dX1_nextRound_35 rfl (lv_at hl 0 rfl) ?_
            refine lv_iload_n hx hb dX1_nextRound_36 rfl (lv_at hl 2 rfl) ?_
            refine vp_callSi (va_Run.run (va_runV (As := [.int (nI (jg_i i x))]) (rest := []) ⟨hx, hb, hml, hown, hts⟩ (c_X1_step l dC dI h0 (jg_i i x) hy) (cwV 1 hts (lw_V q160 q162 qs6 q14 q163) rfl rfl rfl (by decide +kernel) ⟨Nat.le_of_ble_eq_true rfl, Nat.le_of_ble_eq_true rfl⟩) (jg_pre0 (ci := 1) (q0 := 0) hK hP rfl rfl rfl) rfl rfl hl.1 rfl (lv_room (Nat.le_of_ble_eq_true rfl)) dX1_nextRound_37 ⟨Nat.le_of_ble_eq_true rfl, Nat.le_of_ble_eq_true rfl⟩)) (fun r1 (e_r1 : r1 = nI (jg_T (jg_i i x))) => ?_)
            subst e_r1
            refine lv_istore_n (lv' := [(2, .int (nI (jg_T (jg_i i x)))), (0, .ref h0), (1, .int (nI K)), (3, .int (nI i))]) hx hb dX1_nextRound_40 rfl hl (by decide) rfl (fun ls hl => ?_)
            refine lv_iinc (v := nI (i + 1)) (lv' := [(3, .int (nI (i + 1))), (2, .int (nI (jg_T (jg_i i x)))), (0, .ref h0), (1, .int (nI K))]) hx hb dX1_nextRound_41 hl (k := 3) rfl (nI_1 i) (by decide) rfl (fun ls hl => ?_)
            refine lv_goto (tgt := 7) hx hb dX1_nextRound_44 (by decide) ?_
            exact ih (i + 1) ls (by omega) ⟨by omega, lv_sub hl [2, 3, 1, 0] rfl⟩
          · have hz : jg_i i x % 2 ^ K = 0 := (nI_eq (by omega) (by omega)).mp (c30.trans nI_0.symm)
            obtain rfl : i = E := by rcases Nat.lt_or_ge i E with q | q; exact absurd hz (e3 i q); omega
            refine lv_iload_n hx hb dX1_nextRound_33 rfl (lv_at hl 3 rfl) ?_
            exact W.iret (v := nI i) hx hb hr (fun t9 ht9 hW9 => ⟨nI i, rfl, hq.symm, ht9⟩) (fun q h => absurd h List.not_mem_nil) dX1_nextRound_34
  · have hq : jg_qNext x k = -1 := if_neg hk
    refine lv_iload_n hx hb dX1_nextRound_7 rfl (lv_at hl 0 rfl) ?_
    refine lv_ldc (v := 100000) hx hb hown (hts _ q173) dX1_nextRound_8 ?_
    refine lv_icmp_gt (tgt := 47) hx hb dX1_nextRound_10 (by decide) (fun c10 => ?_) (fun c10 => ?_)
    · refine lv_iconst (v := -1) hx hb dX1_nextRound_47 (by decide +kernel) ?_
      exact W.iret (v := (-1)) hx hb hr (fun t9 ht9 hW9 => ⟨(-1), rfl, hq.symm, ht9⟩) (fun q h => absurd h List.not_mem_nil) dX1_nextRound_48
    · refine lv_iload_n hx hb dX1_nextRound_13 rfl (lv_at hl 3 rfl) ?_
      refine lv_if_lt (tgt := 47) hx hb dX1_nextRound_14 (by decide) (fun c14 => ?_) (fun c14 => ?_)
      · refine lv_iconst (v := -1) hx hb dX1_nextRound_47 (by decide +kernel) ?_
        exact W.iret (v := (-1)) hx hb hr (fun t9 ht9 hW9 => ⟨(-1), rfl, hq.symm, ht9⟩) (fun q h => absurd h List.not_mem_nil) dX1_nextRound_48
      · refine lv_iload_n hx hb dX1_nextRound_17 rfl (lv_at hl 3 rfl) ?_
        refine lv_bipush (v := nI 8) hx hb dX1_nextRound_18 (by decide +kernel) ?_
        refine lv_icmp_gt (tgt := 47) hx hb dX1_nextRound_20 (by decide) (fun c20 => ?_) (fun c20 => ?_)
        · refine lv_iconst (v := -1) hx hb dX1_nextRound_47 (by decide +kernel) ?_
          exact W.iret (v := (-1)) hx hb hr (fun t9 ht9 hW9 => ⟨(-1), rfl, hq.symm, ht9⟩) (fun q h => absurd h List.not_mem_nil) dX1_nextRound_48
        · exact absurd ⟨jg_ge c14, jg_ge c20⟩ hk
end
section
/-! the methods that write, but for the table's -/
/-- the world behind a method that writes -/
abbrev jg_Bw (D : va_G) (A : Nat → Prop) (ws : va_W) (tys : List (ClassId × FieldType)) (t : State) : Prop := va_P D vwCl ws t.heap ∧ va_K D vwCl tys t ∧ va_D A ws
set_option maxHeartbeats 4000000 in
set_option maxRecDepth 100000 in
/-- seed(s) -/
theorem c_X0_seed (l : Launch) (dC : Nat → ClassId) (dI : Nat → Nat → Nat) (h0 h1 h2 h3 h4 : Nat) (sz : Nat) (cu a : Int32) : Met l yX0_seed (ws_ yX0_seed cX0_seed 2 (some .boolean)) ({ frames := 1, cells := 0, slots := 0, locals := 20 }) (jg_Pw (dC, dI) sz [(h0, oX cu h1 h2 h3 h4)] [] [.ref h0, .int a]) (va_Qi (fun (r : Int32) (c' : Int32) => r = jg_qSeed a ∧ c' = jg_cSeed cu a) (fun (c' : Int32) t => jg_Bw (dC, dI) (va_A [(h0, oX cu h1 h2 h3 h4)] sz) [(h0, oX c' h1 h2 h3 h4)] [] t) (va_A [(h0, oX cu h1 h2 h3 h4)] sz)) 0 0 (va_A [(h0, oX cu h1 h2 h3 h4)] sz) := by
  refine Met.ofW (cc := cX0_seed) (maxL := 2) (ret := (some .boolean)) (by decide) rfl ?_
  intro p e s m args below meth c s₁ B hml hv
  obtain ⟨rfl, hsz, hP, hK, hD0⟩ := hv
  have hx := B.exec
  have hb := B.bytes
  have hr := B.returns
  have hts := atoms_spec (ws := ws_ yX0_seed cX0_seed 2 (some .boolean)) B.pre
  have hts : ∀ w ∈ lw_all, w.before _ s = true := fun w h => hts w (List.mem_cons_of_mem _ h)
  have hown : s.vm.findClass RX0 = some m.cls := findClass_of_methodNamed B.named
  have hin : meth.name = "seed" := (name_of_methodNamed B.named B.method).1
  subst hsz
  have hD := hD0.self (sz := s.heap.size)
  generalize hAe : va_A [(h0, oX cu h1 h2 h3 h4)] s.heap.size = A at hD ⊢
  have hA : ∀ q : Nat, s.heap.size ≤ q → A q := fun q h => by rw [← hAe]; exact Or.inr h
  have hS : va_S A s.heap s.heap [] := va_S.rf
  have hP : va_P (dC, dI) vwCl [(h0, oX cu h1 h2 h3 h4)] s.heap := hP
  have hl := lv_entry ([.ref h0, .int a]) (n := 2) (Nat.le_of_ble_eq_true rfl)
  rw [lg_entry_eq]
  generalize (lg_sl ([.ref h0, .int a]) ++ List.replicate (2 - (lg_sl ([.ref h0, .int a])).length) Slot.unset).toArray = ls at hl ⊢
  have hl : lv_has ls 2 [(0, .ref h0), (1, .int a)] := hl
  refine lv_iload_n hx hb dX0_seed_0 rfl (lv_at hl 1 rfl) ?_
  refine vp_callSi (va_Run.run (va_runS (As := [.int a]) (rest := []) ⟨hx, hb, hml, hown, hts⟩ (c_X0_isState l dC dI a) (va_cwS 1 hts (lw_S q53 q54 q13 q55) rfl rfl rfl (by decide +kernel) ⟨Nat.le_of_ble_eq_true rfl, Nat.le_of_ble_eq_true rfl⟩) jg_preN rfl rfl hl.1 rfl (lv_room (Nat.le_of_ble_eq_true rfl)) dX0_seed_1 ⟨Nat.le_of_ble_eq_true rfl, Nat.le_of_ble_eq_true rfl⟩)) (fun r1 (e_r1 : r1 = jg_qSeed a) => ?_)
  subst e_r1
  refine lv_if_ne (tgt := 9) hx hb dX0_seed_4 (by decide) (fun c4 => ?_) (fun c4 => ?_)
  · have hs := jg_seedT c4
    refine lv_aload_n hx hb dX0_seed_9 rfl (lv_at hl 0 rfl) ?_
    refine lv_iload_n hx hb dX0_seed_10 rfl (lv_at hl 1 rfl) ?_
    refine va_put (D := (dC, dI)) (ci := 0) (v := .int a) (ty := .int) (C := RX0) (T := TX0) (N := 5) hx hb hts in_X0 tyX0 tyX0_ok nmX0 hown hK hP hD hS 0 rfl rfl 0 (by decide) (hts _ q31) (fun _ h9 => h9) rfl (by decide +kernel) rfl rfl (Nat.le_of_ble_eq_true rfl) dX0_seed_11 (fun H locs hP hD hS => ?_)
    have hP : va_P (dC, dI) vwCl [(h0, oX a h1 h2 h3 h4)] H := hP
    have hD : va_D A [(h0, oX a h1 h2 h3 h4)] := hD
    refine lv_iconst (v := nI 1) hx hb dX0_seed_14 (by decide +kernel) ?_
    exact W.zret (v := nI 1) hx hb hr rfl (fun t9 ht9 hW9 => ⟨⟨nI 1, a, rfl, ⟨(if_pos hs).symm, (if_pos hs).symm⟩, by rw [ht9]; exact hP.sub [0] rfl, va_K.moved hW9.alike (hK.sub [] rfl), hD.sub [0] (by decide) rfl⟩, hS.F ht9⟩) hS.2.2 dX0_seed_15
  · have hs := jg_seedF c4
    refine lv_iconst (v := nI 0) hx hb dX0_seed_7 (by decide +kernel) ?_
    exact W.zret (v := nI 0) hx hb hr rfl (fun t9 ht9 hW9 => ⟨⟨nI 0, cu, rfl, ⟨(if_neg hs).symm, (if_neg hs).symm⟩, by rw [ht9]; exact hP.sub [0] rfl, va_K.moved hW9.alike (hK.sub [] rfl), hD.sub [0] (by decide) rfl⟩, hS.F ht9⟩) hS.2.2 dX0_seed_8
set_option maxHeartbeats 4000000 in
set_option maxRecDepth 100000 in
/-- next() -/
theorem c_X0_next (l : Launch) (dC : Nat → ClassId) (dI : Nat → Nat → Nat) (h0 h1 h2 h3 h4 : Nat) (sz : Nat) (x : Nat) (hx0 : x < 65536) : Met l yX0_next (ws_ yX0_next cX0_next 1 (some .int)) ({ frames := 1, cells := 0, slots := 0, locals := 21 }) (jg_Pw (dC, dI) sz [(h0, oX (nI x) h1 h2 h3 h4)] [] [.ref h0]) (va_Qi (fun (r : Int32) (c' : Int32) => r = nI (jg_T x) ∧ c' = nI (jg_T x)) (fun (c' : Int32) t => jg_Bw (dC, dI) (va_A [(h0, oX (nI x) h1 h2 h3 h4)] sz) [(h0, oX c' h1 h2 h3 h4)] [] t) (va_A [(h0, oX (nI x) h1 h2 h3 h4)] sz)) 0 0 (va_A [(h0, oX (nI x) h1 h2 h3 h4)] sz) := by
  refine Met.ofW (cc := cX0_next) (maxL := 1) (ret := (some .int)) (by decide) rfl ?_
  intro p e s m args below meth c s₁ B hml hv
  obtain ⟨rfl, hsz, hP, hK, hD0⟩ := hv
  have hx := B.exec
  have hb := B.bytes
  have hr := B.returns
  have hts := atoms_spec (ws := ws_ yX0_next cX0_next 1 (some .int)) B.pre
  have hts : ∀ w ∈ lw_all, w.before _ s = true := fun w h => hts w (List.mem_cons_of_mem _ h)
  have hown : s.vm.findClass RX0 = some m.cls := findClass_of_methodNamed B.named
  have hin : meth.name = "next" := (name_of_methodNamed B.named B.method).1
  subst hsz
  have hD := hD0.self (sz := s.heap.size)
  generalize hAe : va_A [(h0, oX (nI x) h1 h2 h3 h4)] s.heap.size = A at hD ⊢
  have hA : ∀ q : Nat, s.heap.size ≤ q → A q := fun q h => by rw [← hAe]; exact Or.inr h
  have hS : va_S A s.heap s.heap [] := va_S.rf
  have hP : va_P (dC, dI) vwCl [(h0, oX (nI x) h1 h2 h3 h4)] s.heap := hP
  have hl := lv_entry ([.ref h0]) (n := 1) (Nat.le_of_ble_eq_true rfl)
  rw [lg_entry_eq]
  generalize (lg_sl ([.ref h0]) ++ List.replicate (1 - (lg_sl ([.ref h0])).length) Slot.unset).toArray = ls at hl ⊢
  have hl : lv_has ls 1 [(0, .ref h0)] := hl
  refine lv_aload_n hx hb dX0_next_0 rfl (lv_at hl 0 rfl) ?_
  refine lv_aload_n hx hb dX0_next_1 rfl (lv_at hl 0 rfl) ?_
  refine va_get (D := (dC, dI)) (ci := 0) (v := .int (nI x)) (C := RX0) (T := TX0) (N := 5) hx hb hts in_X0 hown hK hP 0 rfl rfl 0 (by decide) (hts _ q31) (fun _ h9 => h9) rfl dX0_next_2 ?_
  refine vp_callSi (va_Run.run (va_runS (As := [.int (nI x)]) (rest := [.ref h0]) ⟨hx, hb, hml, hown, hts⟩ (c_X0_step l dC dI x hx0) (va_cwS 1 hts (lw_S q23 q24 q13 q25) rfl rfl rfl (by decide +kernel) ⟨Nat.le_of_ble_eq_true rfl, Nat.le_of_ble_eq_true rfl⟩) jg_preN rfl rfl hl.1 rfl (lv_room (Nat.le_of_ble_eq_true rfl)) dX0_next_5 ⟨Nat.le_of_ble_eq_true rfl, Nat.le_of_ble_eq_true rfl⟩)) (fun r1 (e_r1 : r1 = nI (jg_T x)) => ?_)
  subst e_r1
  refine va_put (D := (dC, dI)) (ci := 0) (v := .int (nI (jg_T x))) (ty := .int) (C := RX0) (T := TX0) (N := 5) hx hb hts in_X0 tyX0 tyX0_ok nmX0 hown hK hP hD hS 0 rfl rfl 0 (by decide) (hts _ q31) (fun _ h9 => h9) rfl (by decide +kernel) rfl rfl (Nat.le_of_ble_eq_true rfl) dX0_next_8 (fun H locs hP hD hS => ?_)
  have hP : va_P (dC, dI) vwCl [(h0, oX (nI (jg_T x)) h1 h2 h3 h4)] H := hP
  have hD : va_D A [(h0, oX (nI (jg_T x)) h1 h2 h3 h4)] := hD
  refine lv_aload_n hx hb dX0_next_11 rfl (lv_at hl 0 rfl) ?_
  refine va_get (D := (dC, dI)) (ci := 0) (v := .int (nI (jg_T x))) (C := RX0) (T := TX0) (N := 5) hx hb hts in_X0 hown hK hP 0 rfl rfl 0 (by decide) (hts _ q31) (fun _ h9 => h9) rfl dX0_next_12 ?_
  exact W.iret (v := nI (jg_T x)) hx hb hr (fun t9 ht9 hW9 => ⟨⟨nI (jg_T x), nI (jg_T x), rfl, ⟨rfl, rfl⟩, by rw [ht9]; exact hP.sub [0] rfl, va_K.moved hW9.alike (hK.sub [] rfl), hD.sub [0] (by decide) rfl⟩, hS.F ht9⟩) hS.2.2 dX0_next_15
set_option maxHeartbeats 4000000 in
set_option maxRecDepth 100000 in
/-- jump(n) -/
theorem c_X0_jump (l : Launch) (dC : Nat → ClassId) (dI : Nat → Nat → Nat) (h0 h1 h2 h3 h4 : Nat) (sz : Nat) (d2 : ClassId) (x : Nat) (hx0 : x < 65536) (f : Nat → Int32) (hf : jg_im f) (n : Int32) : Met l yX0_jump (ws_ yX0_jump cX0_jump 2 (some .int)) ({ frames := 2, cells := 0, slots := 0, locals := 49 }) (jg_Pw (dC, dI) sz [(h0, oX (nI x) h1 h2 h3 h4), (h2, aI d2 272 f)] [(d2, .int)] [.ref h0, .int n]) (va_Qi (fun (r : Int32) (c' : Int32) => r = jg_qJump x n ∧ c' = jg_cJump x n) (fun (c' : Int32) t => jg_Bw (dC, dI) (va_A [(h0, oX (nI x) h1 h2 h3 h4), (h2, aI d2 272 f)] sz) [(h0, oX c' h1 h2 h3 h4), (h2, aI d2 272 f)] [(d2, .int)] t) (va_A [(h0, oX (nI x) h1 h2 h3 h4), (h2, aI d2 272 f)] sz)) 0 0 (va_A [(h0, oX (nI x) h1 h2 h3 h4), (h2, aI d2 272 f)] sz) := by
  refine Met.ofW (cc := cX0_jump) (maxL := 2) (ret := (some .int)) (by decide) rfl ?_
  intro p e s m args below meth c s₁ B hml hv
  obtain ⟨rfl, hsz, hP, hK, hD0⟩ := hv
  have hx := B.exec
  have hb := B.bytes
  have hr := B.returns
  have hts := atoms_spec (ws := ws_ yX0_jump cX0_jump 2 (some .int)) B.pre
  have hts : ∀ w ∈ lw_all, w.before _ s = true := fun w h => hts w (List.mem_cons_of_mem _ h)
  have hown : s.vm.findClass RX0 = some m.cls := findClass_of_methodNamed B.named
  have hin : meth.name = "jump" := (name_of_methodNamed B.named B.method).1
  subst hsz
  have hD := hD0.self (sz := s.heap.size)
  generalize hAe : va_A [(h0, oX (nI x) h1 h2 h3 h4), (h2, aI d2 272 f)] s.heap.size = A at hD ⊢
  have hA : ∀ q : Nat, s.heap.size ≤ q → A q := fun q h => by rw [← hAe]; exact Or.inr h
  have hS : va_S A s.heap s.heap [] := va_S.rf
  have hP : va_P (dC, dI) vwCl [(h0, oX (nI x) h1 h2 h3 h4), (h2, aI d2 272 f)] s.heap := hP
  have hl := lv_entry ([.ref h0, .int n]) (n := 2) (Nat.le_of_ble_eq_true rfl)
  rw [lg_entry_eq]
  generalize (lg_sl ([.ref h0, .int n]) ++ List.replicate (2 - (lg_sl ([.ref h0, .int n])).length) Slot.unset).toArray = ls at hl ⊢
  have hl : lv_has ls 2 [(0, .ref h0), (1, .int n)] := hl
  refine lv_iload_n hx hb dX0_jump_0 rfl (lv_at hl 1 rfl) ?_
  refine lv_ldc (v := -100000) hx hb hown (hts _ q68) dX0_jump_1 ?_
  refine lv_icmp_lt (tgt := 12) hx hb dX0_jump_3 (by decide) (fun c3 => ?_) (fun c3 => ?_)
  · have hn : ¬ jg_nr n := fun q => absurd q.1 (jg_nle c3)
    refine lv_iconst (v := -1) hx hb dX0_jump_12 (by decide +kernel) ?_
    exact W.iret (v := (-1)) hx hb hr (fun t9 ht9 hW9 => ⟨⟨(-1), nI x, rfl, ⟨(if_neg hn).symm, (if_neg hn).symm⟩, by rw [ht9]; exact hP.sub [0, 1] rfl, va_K.moved hW9.alike (hK.sub [0] rfl), hD.sub [0, 1] (by decide) rfl⟩, hS.F ht9⟩) hS.2.2 dX0_jump_13
  · refine lv_iload_n hx hb dX0_jump_6 rfl (lv_at hl 1 rfl) ?_
    refine lv_ldc (v := 100000) hx hb hown (hts _ q69) dX0_jump_7 ?_
    refine lv_icmp_le (tgt := 14) hx hb dX0_jump_9 (by decide) (fun c9 => ?_) (fun c9 => ?_)
    · have hn : jg_nr n := ⟨jg_ge c3, c9⟩
      refine lv_aload_n hx hb dX0_jump_14 rfl (lv_at hl 0 rfl) ?_
      refine lv_aload_n hx hb dX0_jump_15 rfl (lv_at hl 0 rfl) ?_
      refine lv_aload_n hx hb dX0_jump_16 rfl (lv_at hl 0 rfl) ?_
      refine va_get (D := (dC, dI)) (ci := 0) (v := .int (nI x)) (C := RX0) (T := TX0) (N := 5) hx hb hts in_X0 hown hK hP 0 rfl rfl 0 (by decide) (hts _ q31) (fun _ h9 => h9) rfl dX0_jump_17 ?_
      refine lv_iload_n hx hb dX0_jump_20 rfl (lv_at hl 1 rfl) ?_
      refine vp_callSi (va_Run.run (va_runV (As := [.int (nI x), .int n]) (rest := [.ref h0]) ⟨hx, hb, hml, hown, hts⟩ (c_X0_wind l dC dI h0 h1 h2 h3 h4 d2 (nI x) f hf x hx0 n) (cwV 2 hts (lw_V q70 q72 qs1 q13 q73) rfl rfl rfl (by decide +kernel) ⟨Nat.le_of_ble_eq_true rfl, Nat.le_of_ble_eq_true rfl⟩) (jg_preR (ci := 0) (q0 := 0) hK hP rfl rfl rfl (hP.sub [0, 1] rfl) (hK.sub [0] rfl)) rfl rfl hl.1 rfl (lv_room (Nat.le_of_ble_eq_true rfl)) dX0_jump_21 ⟨Nat.le_of_ble_eq_true rfl, Nat.le_of_ble_eq_true rfl⟩)) (fun r1 (e_r1 : r1 = nI (jg_w x n.toInt)) => ?_)
      subst e_r1
      refine va_put (D := (dC, dI)) (ci := 0) (v := .int (nI (jg_w x n.toInt))) (ty := .int) (C := RX0) (T := TX0) (N := 5) hx hb hts in_X0 tyX0 tyX0_ok nmX0 hown hK hP hD hS 0 rfl rfl 0 (by decide) (hts _ q31) (fun _ h9 => h9) rfl (by decide +kernel) rfl rfl (Nat.le_of_ble_eq_true rfl) dX0_jump_24 (fun H locs hP hD hS => ?_)
      have hP : va_P (dC, dI) vwCl [(h0, oX (nI (jg_w x n.toInt)) h1 h2 h3 h4), (h2, aI d2 272 f)] H := hP
      have hD : va_D A [(h0, oX (nI (jg_w x n.toInt)) h1 h2 h3 h4), (h2, aI d2 272 f)] := hD
      refine lv_aload_n hx hb dX0_jump_27 rfl (lv_at hl 0 rfl) ?_
      refine va_get (D := (dC, dI)) (ci := 0) (v := .int (nI (jg_w x n.toInt))) (C := RX0) (T := TX0) (N := 5) hx hb hts in_X0 hown hK hP 0 rfl rfl 0 (by decide) (hts _ q31) (fun _ h9 => h9) rfl dX0_jump_28 ?_
      exact W.iret (v := nI (jg_w x n.toInt)) hx hb hr (fun t9 ht9 hW9 => ⟨⟨nI (jg_w x n.toInt), nI (jg_w x n.toInt), rfl, ⟨(if_pos hn).symm, (if_pos hn).symm⟩, by rw [ht9]; exact hP.sub [0, 1] rfl, va_K.moved hW9.alike (hK.sub [0] rfl), hD.sub [0, 1] (by decide) rfl⟩, hS.F ht9⟩) hS.2.2 dX0_jump_31
    · have hn : ¬ jg_nr n := fun q => c9 q.2
      refine lv_iconst (v := -1) hx hb dX0_jump_12 (by decide +kernel) ?_
      exact W.iret (v := (-1)) hx hb hr (fun t9 ht9 hW9 => ⟨⟨(-1), nI x, rfl, ⟨(if_neg hn).symm, (if_neg hn).symm⟩, by rw [ht9]; exact hP.sub [0, 1] rfl, va_K.moved hW9.alike (hK.sub [0] rfl), hD.sub [0, 1] (by decide) rfl⟩, hS.F ht9⟩) hS.2.2 dX0_jump_13
set_option maxHeartbeats 4000000 in
set_option maxRecDepth 100000 in
/-- mark(m) -/
theorem c_X0_mark (l : Launch) (dC : Nat → ClassId) (dI : Nat → Nat → Nat) (h0 h1 h2 h3 h4 : Nat) (sz : Nat) (d1 : ClassId) (cu : Int32) (f : Nat → Int32) (a : Int32) : Met l yX0_mark (ws_ yX0_mark cX0_mark 2 (some .boolean)) ({ frames := 1, cells := 0, slots := 0, locals := 20 }) (jg_Pw (dC, dI) sz [(h0, oX cu h1 h2 h3 h4), (h1, aI d1 8 f)] [(d1, .int)] [.ref h0, .int a]) (va_Qi (fun (r : Int32) (f' : Nat → Int32) => r = jg_qMark a ∧ f' = jg_fMark f cu a) (fun (f' : Nat → Int32) t => jg_Bw (dC, dI) (va_A [(h0, oX cu h1 h2 h3 h4), (h1, aI d1 8 f)] sz) [(h0, oX cu h1 h2 h3 h4), (h1, aI d1 8 f')] [(d1, .int)] t) (va_A [(h0, oX cu h1 h2 h3 h4), (h1, aI d1 8 f)] sz)) 0 0 (va_A [(h0, oX cu h1 h2 h3 h4), (h1, aI d1 8 f)] sz) := by
  refine Met.ofW (cc := cX0_mark) (maxL := 2) (ret := (some .boolean)) (by decide) rfl ?_
  intro p e s m args below meth c s₁ B hml hv
  obtain ⟨rfl, hsz, hP, hK, hD0⟩ := hv
  have hx := B.exec
  have hb := B.bytes
  have hr := B.returns
  have hts := atoms_spec (ws := ws_ yX0_mark cX0_mark 2 (some .boolean)) B.pre
  have hts : ∀ w ∈ lw_all, w.before _ s = true := fun w h => hts w (List.mem_cons_of_mem _ h)
  have hown : s.vm.findClass RX0 = some m.cls := findClass_of_methodNamed B.named
  have hin : meth.name = "mark" := (name_of_methodNamed B.named B.method).1
  subst hsz
  have hD := hD0.self (sz := s.heap.size)
  generalize hAe : va_A [(h0, oX cu h1 h2 h3 h4), (h1, aI d1 8 f)] s.heap.size = A at hD ⊢
  have hA : ∀ q : Nat, s.heap.size ≤ q → A q := fun q h => by rw [← hAe]; exact Or.inr h
  have hS : va_S A s.heap s.heap [] := va_S.rf
  have hP : va_P (dC, dI) vwCl [(h0, oX cu h1 h2 h3 h4), (h1, aI d1 8 f)] s.heap := hP
  have hl := lv_entry ([.ref h0, .int a]) (n := 2) (Nat.le_of_ble_eq_true rfl)
  rw [lg_entry_eq]
  generalize (lg_sl ([.ref h0, .int a]) ++ List.replicate (2 - (lg_sl ([.ref h0, .int a])).length) Slot.unset).toArray = ls at hl ⊢
  have hl : lv_has ls 2 [(0, .ref h0), (1, .int a)] := hl
  refine lv_iload_n hx hb dX0_mark_0 rfl (lv_at hl 1 rfl) ?_
  refine vp_callSi (va_Run.run (va_runS (As := [.int a]) (rest := []) ⟨hx, hb, hml, hown, hts⟩ (c_X0_isMark l dC dI a) (va_cwS 1 hts (lw_S q82 q83 q13 q84) rfl rfl rfl (by decide +kernel) ⟨Nat.le_of_ble_eq_true rfl, Nat.le_of_ble_eq_true rfl⟩) jg_preN rfl rfl hl.1 rfl (lv_room (Nat.le_of_ble_eq_true rfl)) dX0_mark_1 ⟨Nat.le_of_ble_eq_true rfl, Nat.le_of_ble_eq_true rfl⟩)) (fun r1 (e_r1 : r1 = jg_qMark a) => ?_)
  subst e_r1
  refine lv_if_ne (tgt := 9) hx hb dX0_mark_4 (by decide) (fun c4 => ?_) (fun c4 => ?_)
  · have hM := jg_markT c4
    have hq : jg_fMark f cu a = upd f a.toNatClampNeg cu := if_pos hM
    have hq2 : jg_qMark a = 1 := if_pos hM
    obtain ⟨M, hM8, rfl⟩ := jg_isM_of hM
    rw [nI_clamp (by omega)] at hq
    refine lv_aload_n hx hb dX0_mark_9 rfl (lv_at hl 0 rfl) ?_
    refine va_get (D := (dC, dI)) (ci := 0) (v := .ref h1) (C := RX0) (T := TX0) (N := 5) hx hb hts in_X0 hown hK hP 0 rfl rfl 1 (by decide) (hts _ q32) (fun _ h9 => h9) rfl dX0_mark_10 ?_
    refine lv_iload_n hx hb dX0_mark_13 rfl (lv_at hl 1 rfl) ?_
    refine lv_aload_n hx hb dX0_mark_14 rfl (lv_at hl 0 rfl) ?_
    refine va_get (D := (dC, dI)) (ci := 0) (v := .int cu) (C := RX0) (T := TX0) (N := 5) hx hb hts in_X0 hown hK hP 0 rfl rfl 0 (by decide) (hts _ q31) (fun _ h9 => h9) rfl dX0_mark_15 ?_
    refine jg_iast (j := M) hx hb hK hP hD hS 1 0 rfl rfl hM8 (by decide) dX0_mark_18 (fun H locs hP hD hS => ?_)
    have hP : va_P (dC, dI) vwCl [(h0, oX cu h1 h2 h3 h4), (h1, aI d1 8 (upd f M cu))] H := hP
    have hD : va_D A [(h0, oX cu h1 h2 h3 h4), (h1, aI d1 8 (upd f M cu))] := hD
    refine lv_iconst (v := nI 1) hx hb dX0_mark_19 (by decide +kernel) ?_
    exact W.zret (v := nI 1) hx hb hr rfl (fun t9 ht9 hW9 => ⟨⟨nI 1, upd f M cu, rfl, ⟨hq2.symm, hq.symm⟩, by rw [ht9]; exact hP.sub [0, 1] rfl, va_K.moved hW9.alike (hK.sub [0] rfl), hD.sub [0, 1] (by decide) rfl⟩, hS.F ht9⟩) hS.2.2 dX0_mark_20
  · have hM := jg_markF c4
    refine lv_iconst (v := nI 0) hx hb dX0_mark_7 (by decide +kernel) ?_
    exact W.zret (v := nI 0) hx hb hr rfl (fun t9 ht9 hW9 => ⟨⟨nI 0, f, rfl, ⟨(if_neg hM).symm, (if_neg hM).symm⟩, by rw [ht9]; exact hP.sub [0, 1] rfl, va_K.moved hW9.alike (hK.sub [0] rfl), hD.sub [0, 1] (by decide) rfl⟩, hS.F ht9⟩) hS.2.2 dX0_mark_8
set_option maxHeartbeats 4000000 in
set_option maxRecDepth 100000 in
/-- back(m) -/
theorem c_X0_back (l : Launch) (dC : Nat → ClassId) (dI : Nat → Nat → Nat) (h0 h1 h2 h3 h4 : Nat) (sz : Nat) (d1 : ClassId) (cu : Int32) (f : Nat → Int32) (a : Int32) : Met l yX0_back (ws_ yX0_back cX0_back 2 (some .boolean)) ({ frames := 1, cells := 0, slots := 0, locals := 20 }) (jg_Pw (dC, dI) sz [(h0, oX cu h1 h2 h3 h4), (h1, aI d1 8 f)] [(d1, .int)] [.ref h0, .int a]) (va_Qi (fun (r : Int32) (c' : Int32) => r = jg_qBack f a ∧ c' = jg_cBack f cu a) (fun (c' : Int32) t => jg_Bw (dC, dI) (va_A [(h0, oX cu h1 h2 h3 h4), (h1, aI d1 8 f)] sz) [(h0, oX c' h1 h2 h3 h4), (h1, aI d1 8 f)] [(d1, .int)] t) (va_A [(h0, oX cu h1 h2 h3 h4), (h1, aI d1 8 f)] sz)) 0 0 (va_A [(h0, oX cu h1 h2 h3 h4), (h1, aI d1 8 f)] sz) := by
  refine Met.ofW (cc := cX0_back) (maxL := 2) (ret := (some .boolean)) (by decide) rfl ?_
  intro p e s m args below meth c s₁ B hml hv
  obtain ⟨rfl, hsz, hP, hK, hD0⟩ := hv
  have hx := B.exec
  have hb := B.bytes
  have hr := B.returns
  have hts := atoms_spec (ws := ws_ yX0_back cX0_back 2 (some .boolean)) B.pre
  have hts : ∀ w ∈ lw_all, w.before _ s = true := fun w h => hts w (List.mem_cons_of_mem _ h)
  have hown : s.vm.findClass RX0 = some m.cls := findClass_of_methodNamed B.named
  have hin : meth.name = "back" := (name_of_methodNamed B.named B.method).1
  subst hsz
  have hD := hD0.self (sz := s.heap.size)
  generalize hAe : va_A [(h0, oX cu h1 h2 h3 h4), (h1, aI d1 8 f)] s.heap.size = A at hD ⊢
  have hA : ∀ q : Nat, s.heap.size ≤ q → A q := fun q h => by rw [← hAe]; exact Or.inr h
  have hS : va_S A s.heap s.heap [] := va_S.rf
  have hP : va_P (dC, dI) vwCl [(h0, oX cu h1 h2 h3 h4), (h1, aI d1 8 f)] s.heap := hP
  have hl := lv_entry ([.ref h0, .int a]) (n := 2) (Nat.le_of_ble_eq_true rfl)
  rw [lg_entry_eq]
  generalize (lg_sl ([.ref h0, .int a]) ++ List.replicate (2 - (lg_sl ([.ref h0, .int a])).length) Slot.unset).toArray = ls at hl ⊢
  have hl : lv_has ls 2 [(0, .ref h0), (1, .int a)] := hl
  refine lv_iload_n hx hb dX0_back_0 rfl (lv_at hl 1 rfl) ?_
  refine vp_callSi (va_Run.run (va_runS (As := [.int a]) (rest := []) ⟨hx, hb, hml, hown, hts⟩ (c_X0_isMark l dC dI a) (va_cwS 1 hts (lw_S q82 q83 q13 q84) rfl rfl rfl (by decide +kernel) ⟨Nat.le_of_ble_eq_true rfl, Nat.le_of_ble_eq_true rfl⟩) jg_preN rfl rfl hl.1 rfl (lv_room (Nat.le_of_ble_eq_true rfl)) dX0_back_1 ⟨Nat.le_of_ble_eq_true rfl, Nat.le_of_ble_eq_true rfl⟩)) (fun r1 (e_r1 : r1 = jg_qMark a) => ?_)
  subst e_r1
  refine lv_if_eq (tgt := 16) hx hb dX0_back_4 (by decide) (fun c4 => ?_) (fun c4 => ?_)
  · have hM : ¬ (jg_isM a ∧ f a.toNatClampNeg ≠ 0) := fun q => jg_markF c4 q.1
    refine lv_iconst (v := nI 0) hx hb dX0_back_16 (by decide +kernel) ?_
    exact W.zret (v := nI 0) hx hb hr rfl (fun t9 ht9 hW9 => ⟨⟨nI 0, cu, rfl, ⟨(if_neg hM).symm, (if_neg hM).symm⟩, by rw [ht9]; exact hP.sub [0, 1] rfl, va_K.moved hW9.alike (hK.sub [0] rfl), hD.sub [0, 1] (by decide) rfl⟩, hS.F ht9⟩) hS.2.2 dX0_back_17
  · have hM := jg_markT c4
    obtain ⟨M, hM8, eM⟩ := jg_isM_of hM
    have hcl : a.toNatClampNeg = M := by rw [eM, nI_clamp (by omega)]
    subst eM
    refine lv_aload_n hx hb dX0_back_7 rfl (lv_at hl 0 rfl) ?_
    refine va_get (D := (dC, dI)) (ci := 0) (v := .ref h1) (C := RX0) (T := TX0) (N := 5) hx hb hts in_X0 hown hK hP 0 rfl rfl 1 (by decide) (hts _ q32) (fun _ h9 => h9) rfl dX0_back_8 ?_
    refine lv_iload_n hx hb dX0_back_11 rfl (lv_at hl 1 rfl) ?_
    refine jg_iald (j := M) hx hb hK hP 1 0 rfl rfl hM8 (by decide) dX0_back_12 ?_
    refine lv_if_ne (tgt := 18) hx hb dX0_back_13 (by decide) (fun c13 => ?_) (fun c13 => ?_)
    · have hq : jg_cBack f cu (nI M) = f (nI M).toNatClampNeg := if_pos ⟨hM, by rw [hcl]; exact c13⟩
      rw [hcl] at hq
      have hq2 : jg_qBack f (nI M) = 1 := if_pos ⟨hM, by rw [hcl]; exact c13⟩
      refine lv_aload_n hx hb dX0_back_18 rfl (lv_at hl 0 rfl) ?_
      refine lv_aload_n hx hb dX0_back_19 rfl (lv_at hl 0 rfl) ?_
      refine va_get (D := (dC, dI)) (ci := 0) (v := .ref h1) (C := RX0) (T := TX0) (N := 5) hx hb hts in_X0 hown hK hP 0 rfl rfl 1 (by decide) (hts _ q32) (fun _ h9 => h9) rfl dX0_back_20 ?_
      refine lv_iload_n hx hb dX0_back_23 rfl (lv_at hl 1 rfl) ?_
      refine jg_iald (j := M) hx hb hK hP 1 0 rfl rfl hM8 (by decide) dX0_back_24 ?_
      refine va_put (D := (dC, dI)) (ci := 0) (v := .int (f M)) (ty := .int) (C := RX0) (T := TX0) (N := 5) hx hb hts in_X0 tyX0 tyX0_ok nmX0 hown hK hP hD hS 0 rfl rfl 0 (by decide) (hts _ q31) (fun _ h9 => h9) rfl (by decide +kernel) rfl rfl (Nat.le_of_ble_eq_true rfl) dX0_back_25 (fun H locs hP hD hS => ?_)
      have hP : va_P (dC, dI) vwCl [(h0, oX (f M) h1 h2 h3 h4), (h1, aI d1 8 f)] H := hP
      have hD : va_D A [(h0, oX (f M) h1 h2 h3 h4), (h1, aI d1 8 f)] := hD
      refine lv_iconst (v := nI 1) hx hb dX0_back_28 (by decide +kernel) ?_
      exact W.zret (v := nI 1) hx hb hr rfl (fun t9 ht9 hW9 => ⟨⟨nI 1, f M, rfl, ⟨hq2.symm, hq.symm⟩, by rw [ht9]; exact hP.sub [0, 1] rfl, va_K.moved hW9.alike (hK.sub [0] rfl), hD.sub [0, 1] (by decide) rfl⟩, hS.F ht9⟩) hS.2.2 dX0_back_29
    · have hM : ¬ (jg_isM (nI M) ∧ f (nI M).toNatClampNeg ≠ 0) := fun q => q.2 (by rw [hcl]; exact c13)
      refine lv_iconst (v := nI 0) hx hb dX0_back_16 (by decide +kernel) ?_
      exact W.zret (v := nI 0) hx hb hr rfl (fun t9 ht9 hW9 => ⟨⟨nI 0, cu, rfl, ⟨(if_neg hM).symm, (if_neg hM).symm⟩, by rw [ht9]; exact hP.sub [0, 1] rfl, va_K.moved hW9.alike (hK.sub [0] rfl), hD.sub [0, 1] (by decide) rfl⟩, hS.F ht9⟩) hS.2.2 dX0_back_17
set_option maxHeartbeats 4000000 in
set_option maxRecDepth 100000 in
/-- seed(s) -/
theorem c_X1_seed (l : Launch) (dC : Nat → ClassId) (dI : Nat → Nat → Nat) (h0 g1 : Nat) (sz : Nat) (cu a : Int32) : Met l yX1_seed (ws_ yX1_seed cX1_seed 2 (some .boolean)) ({ frames := 1, cells := 0, slots := 0, locals := 21 }) (jg_Pw (dC, dI) sz [(h0, oM cu g1)] [] [.ref h0, .int a]) (va_Qi (fun (r : Int32) (c' : Int32) => r = jg_qSeed a ∧ c' = jg_cSeed cu a) (fun (c' : Int32) t => jg_Bw (dC, dI) (va_A [(h0, oM cu g1)] sz) [(h0, oM c' g1)] [] t) (va_A [(h0, oM cu g1)] sz)) 0 0 (va_A [(h0, oM cu g1)] sz) := by
  refine Met.ofW (cc := cX1_seed) (maxL := 2) (ret := (some .boolean)) (by decide) rfl ?_
  intro p e s m args below meth c s₁ B hml hv
  obtain ⟨rfl, hsz, hP, hK, hD0⟩ := hv
  have hx := B.exec
  have hb := B.bytes
  have hr := B.returns
  have hts := atoms_spec (ws := ws_ yX1_seed cX1_seed 2 (some .boolean)) B.pre
  have hts : ∀ w ∈ lw_all, w.before _ s = true := fun w h => hts w (List.mem_cons_of_mem _ h)
  have hown : s.vm.findClass RX1 = some m.cls := findClass_of_methodNamed B.named
  have hin : meth.name = "seed" := (name_of_methodNamed B.named B.method).1
  subst hsz
  have hD := hD0.self (sz := s.heap.size)
  generalize hAe : va_A [(h0, oM cu g1)] s.heap.size = A at hD ⊢
  have hA : ∀ q : Nat, s.heap.size ≤ q → A q := fun q h => by rw [← hAe]; exact Or.inr h
  have hS : va_S A s.heap s.heap [] := va_S.rf
  have hP : va_P (dC, dI) vwCl [(h0, oM cu g1)] s.heap := hP
  have hl := lv_entry ([.ref h0, .int a]) (n := 2) (Nat.le_of_ble_eq_true rfl)
  rw [lg_entry_eq]
  generalize (lg_sl ([.ref h0, .int a]) ++ List.replicate (2 - (lg_sl ([.ref h0, .int a])).length) Slot.unset).toArray = ls at hl ⊢
  have hl : lv_has ls 2 [(0, .ref h0), (1, .int a)] := hl
  refine lv_aload_n hx hb dX1_seed_0 rfl (lv_at hl 0 rfl) ?_
  refine lv_iload_n hx hb dX1_seed_1 rfl (lv_at hl 1 rfl) ?_
  refine vp_callSi (va_Run.run (va_runV (As := [.int a]) (rest := []) ⟨hx, hb, hml, hown, hts⟩ (c_X1_isState l dC dI h0 a) (cwV 1 hts (lw_V q147 q149 qs5 q14 q150) rfl rfl rfl (by decide +kernel) ⟨Nat.le_of_ble_eq_true rfl, Nat.le_of_ble_eq_true rfl⟩) (jg_pre0 (ci := 1) (q0 := 0) hK hP rfl rfl rfl) rfl rfl hl.1 rfl (lv_room (Nat.le_of_ble_eq_true rfl)) dX1_seed_2 ⟨Nat.le_of_ble_eq_true rfl, Nat.le_of_ble_eq_true rfl⟩)) (fun r1 (e_r1 : r1 = jg_qSeed a) => ?_)
  subst e_r1
  refine lv_if_ne (tgt := 10) hx hb dX1_seed_5 (by decide) (fun c5 => ?_) (fun c5 => ?_)
  · have hs := jg_seedT c5
    refine lv_aload_n hx hb dX1_seed_10 rfl (lv_at hl 0 rfl) ?_
    refine lv_iload_n hx hb dX1_seed_11 rfl (lv_at hl 1 rfl) ?_
    refine va_put (D := (dC, dI)) (ci := 1) (v := .int a) (ty := .int) (C := RX1) (T := TX1) (N := 2) hx hb hts in_X1 tyX1 tyX1_ok nmX1 hown hK hP hD hS 0 rfl rfl 0 (by decide) (hts _ q136) (fun _ h9 => h9) rfl (by decide +kernel) rfl rfl (Nat.le_of_ble_eq_true rfl) dX1_seed_12 (fun H locs hP hD hS => ?_)
    have hP : va_P (dC, dI) vwCl [(h0, oM a g1)] H := hP
    have hD : va_D A [(h0, oM a g1)] := hD
    refine lv_iconst (v := nI 1) hx hb dX1_seed_15 (by decide +kernel) ?_
    exact W.zret (v := nI 1) hx hb hr rfl (fun t9 ht9 hW9 => ⟨⟨nI 1, a, rfl, ⟨(if_pos hs).symm, (if_pos hs).symm⟩, by rw [ht9]; exact hP.sub [0] rfl, va_K.moved hW9.alike (hK.sub [] rfl), hD.sub [0] (by decide) rfl⟩, hS.F ht9⟩) hS.2.2 dX1_seed_16
  · have hs := jg_seedF c5
    refine lv_iconst (v := nI 0) hx hb dX1_seed_8 (by decide +kernel) ?_
    exact W.zret (v := nI 0) hx hb hr rfl (fun t9 ht9 hW9 => ⟨⟨nI 0, cu, rfl, ⟨(if_neg hs).symm, (if_neg hs).symm⟩, by rw [ht9]; exact hP.sub [0] rfl, va_K.moved hW9.alike (hK.sub [] rfl), hD.sub [0] (by decide) rfl⟩, hS.F ht9⟩) hS.2.2 dX1_seed_9
set_option maxHeartbeats 4000000 in
set_option maxRecDepth 100000 in
/-- next() -/
theorem c_X1_next (l : Launch) (dC : Nat → ClassId) (dI : Nat → Nat → Nat) (h0 g1 : Nat) (sz : Nat) (x : Nat) (hx0 : x < 65536) : Met l yX1_next (ws_ yX1_next cX1_next 1 (some .int)) ({ frames := 1, cells := 0, slots := 0, locals := 23 }) (jg_Pw (dC, dI) sz [(h0, oM (nI x) g1)] [] [.ref h0]) (va_Qi (fun (r : Int32) (c' : Int32) => r = nI (jg_T x) ∧ c' = nI (jg_T x)) (fun (c' : Int32) t => jg_Bw (dC, dI) (va_A [(h0, oM (nI x) g1)] sz) [(h0, oM c' g1)] [] t) (va_A [(h0, oM (nI x) g1)] sz)) 0 0 (va_A [(h0, oM (nI x) g1)] sz) := by
  refine Met.ofW (cc := cX1_next) (maxL := 1) (ret := (some .int)) (by decide) rfl ?_
  intro p e s m args below meth c s₁ B hml hv
  obtain ⟨rfl, hsz, hP, hK, hD0⟩ := hv
  have hx := B.exec
  have hb := B.bytes
  have hr := B.returns
  have hts := atoms_spec (ws := ws_ yX1_next cX1_next 1 (some .int)) B.pre
  have hts : ∀ w ∈ lw_all, w.before _ s = true := fun w h => hts w (List.mem_cons_of_mem _ h)
  have hown : s.vm.findClass RX1 = some m.cls := findClass_of_methodNamed B.named
  have hin : meth.name = "next" := (name_of_methodNamed B.named B.method).1
  subst hsz
  have hD := hD0.self (sz := s.heap.size)
  generalize hAe : va_A [(h0, oM (nI x) g1)] s.heap.size = A at hD ⊢
  have hA : ∀ q : Nat, s.heap.size ≤ q → A q := fun q h => by rw [← hAe]; exact Or.inr h
  have hS : va_S A s.heap s.heap [] := va_S.rf
  have hP : va_P (dC, dI) vwCl [(h0, oM (nI x) g1)] s.heap := hP
  have hl := lv_entry ([.ref h0]) (n := 1) (Nat.le_of_ble_eq_true rfl)
  rw [lg_entry_eq]
  generalize (lg_sl ([.ref h0]) ++ List.replicate (1 - (lg_sl ([.ref h0])).length) Slot.unset).toArray = ls at hl ⊢
  have hl : lv_has ls 1 [(0, .ref h0)] := hl
  refine lv_aload_n hx hb dX1_next_0 rfl (lv_at hl 0 rfl) ?_
  refine lv_aload_n hx hb dX1_next_1 rfl (lv_at hl 0 rfl) ?_
  refine lv_aload_n hx hb dX1_next_2 rfl (lv_at hl 0 rfl) ?_
  refine va_get (D := (dC, dI)) (ci := 1) (v := .int (nI x)) (C := RX1) (T := TX1) (N := 2) hx hb hts in_X1 hown hK hP 0 rfl rfl 0 (by decide) (hts _ q136) (fun _ h9 => h9) rfl dX1_next_3 ?_
  refine vp_callSi (va_Run.run (va_runV (As := [.int (nI x)]) (rest := [.ref h0]) ⟨hx, hb, hml, hown, hts⟩ (c_X1_step l dC dI h0 x hx0) (cwV 1 hts (lw_V q160 q162 qs6 q14 q163) rfl rfl rfl (by decide +kernel) ⟨Nat.le_of_ble_eq_true rfl, Nat.le_of_ble_eq_true rfl⟩) (jg_pre0 (ci := 1) (q0 := 0) hK hP rfl rfl rfl) rfl rfl hl.1 rfl (lv_room (Nat.le_of_ble_eq_true rfl)) dX1_next_6 ⟨Nat.le_of_ble_eq_true rfl, Nat.le_of_ble_eq_true rfl⟩)) (fun r1 (e_r1 : r1 = nI (jg_T x)) => ?_)
  subst e_r1
  refine va_put (D := (dC, dI)) (ci := 1) (v := .int (nI (jg_T x))) (ty := .int) (C := RX1) (T := TX1) (N := 2) hx hb hts in_X1 tyX1 tyX1_ok nmX1 hown hK hP hD hS 0 rfl rfl 0 (by decide) (hts _ q136) (fun _ h9 => h9) rfl (by decide +kernel) rfl rfl (Nat.le_of_ble_eq_true rfl) dX1_next_9 (fun H locs hP hD hS => ?_)
  have hP : va_P (dC, dI) vwCl [(h0, oM (nI (jg_T x)) g1)] H := hP
  have hD : va_D A [(h0, oM (nI (jg_T x)) g1)] := hD
  refine lv_aload_n hx hb dX1_next_12 rfl (lv_at hl 0 rfl) ?_
  refine va_get (D := (dC, dI)) (ci := 1) (v := .int (nI (jg_T x))) (C := RX1) (T := TX1) (N := 2) hx hb hts in_X1 hown hK hP 0 rfl rfl 0 (by decide) (hts _ q136) (fun _ h9 => h9) rfl dX1_next_13 ?_
  exact W.iret (v := nI (jg_T x)) hx hb hr (fun t9 ht9 hW9 => ⟨⟨nI (jg_T x), nI (jg_T x), rfl, ⟨rfl, rfl⟩, by rw [ht9]; exact hP.sub [0] rfl, va_K.moved hW9.alike (hK.sub [] rfl), hD.sub [0] (by decide) rfl⟩, hS.F ht9⟩) hS.2.2 dX1_next_16
set_option maxHeartbeats 4000000 in
set_option maxRecDepth 100000 in
/-- jump(n) -/
theorem c_X1_jump (l : Launch) (dC : Nat → ClassId) (dI : Nat → Nat → Nat) (h0 g1 : Nat) (sz : Nat) (x : Nat) (hx0 : x < 65536) (n : Int32) : Met l yX1_jump (ws_ yX1_jump cX1_jump 2 (some .int)) ({ frames := 2, cells := 0, slots := 0, locals := 47 }) (jg_Pw (dC, dI) sz [(h0, oM (nI x) g1)] [] [.ref h0, .int n]) (va_Qi (fun (r : Int32) (c' : Int32) => r = jg_qJump x n ∧ c' = jg_cJump x n) (fun (c' : Int32) t => jg_Bw (dC, dI) (va_A [(h0, oM (nI x) g1)] sz) [(h0, oM c' g1)] [] t) (va_A [(h0, oM (nI x) g1)] sz)) 0 0 (va_A [(h0, oM (nI x) g1)] sz) := by
  refine Met.ofW (cc := cX1_jump) (maxL := 2) (ret := (some .int)) (by decide) rfl ?_
  intro p e s m args below meth c s₁ B hml hv
  obtain ⟨rfl, hsz, hP, hK, hD0⟩ := hv
  have hx := B.exec
  have hb := B.bytes
  have hr := B.returns
  have hts := atoms_spec (ws := ws_ yX1_jump cX1_jump 2 (some .int)) B.pre
  have hts : ∀ w ∈ lw_all, w.before _ s = true := fun w h => hts w (List.mem_cons_of_mem _ h)
  have hown : s.vm.findClass RX1 = some m.cls := findClass_of_methodNamed B.named
  have hin : meth.name = "jump" := (name_of_methodNamed B.named B.method).1
  subst hsz
  have hD := hD0.self (sz := s.heap.size)
  generalize hAe : va_A [(h0, oM (nI x) g1)] s.heap.size = A at hD ⊢
  have hA : ∀ q : Nat, s.heap.size ≤ q → A q := fun q h => by rw [← hAe]; exact Or.inr h
  have hS : va_S A s.heap s.heap [] := va_S.rf
  have hP : va_P (dC, dI) vwCl [(h0, oM (nI x) g1)] s.heap := hP
  have hl := lv_entry ([.ref h0, .int n]) (n := 2) (Nat.le_of_ble_eq_true rfl)
  rw [lg_entry_eq]
  generalize (lg_sl ([.ref h0, .int n]) ++ List.replicate (2 - (lg_sl ([.ref h0, .int n])).length) Slot.unset).toArray = ls at hl ⊢
  have hl : lv_has ls 2 [(0, .ref h0), (1, .int n)] := hl
  refine lv_aload_n hx hb dX1_jump_0 rfl (lv_at hl 0 rfl) ?_
  refine lv_iload_n hx hb dX1_jump_1 rfl (lv_at hl 1 rfl) ?_
  refine vp_callSi (va_Run.run (va_runV (As := [.int n]) (rest := []) ⟨hx, hb, hml, hown, hts⟩ (c_X1_near l dC dI h0 n) (cwV 1 hts (lw_V q168 q170 qs7 q14 q171) rfl rfl rfl (by decide +kernel) ⟨Nat.le_of_ble_eq_true rfl, Nat.le_of_ble_eq_true rfl⟩) (jg_pre0 (ci := 1) (q0 := 0) hK hP rfl rfl rfl) rfl rfl hl.1 rfl (lv_room (Nat.le_of_ble_eq_true rfl)) dX1_jump_2 ⟨Nat.le_of_ble_eq_true rfl, Nat.le_of_ble_eq_true rfl⟩)) (fun r1 (e_r1 : r1 = jg_qNear n) => ?_)
  subst e_r1
  refine lv_if_ne (tgt := 10) hx hb dX1_jump_5 (by decide) (fun c5 => ?_) (fun c5 => ?_)
  · have hn := jg_nearT c5
    refine lv_aload_n hx hb dX1_jump_10 rfl (lv_at hl 0 rfl) ?_
    refine lv_aload_n hx hb dX1_jump_11 rfl (lv_at hl 0 rfl) ?_
    refine lv_aload_n hx hb dX1_jump_12 rfl (lv_at hl 0 rfl) ?_
    refine va_get (D := (dC, dI)) (ci := 1) (v := .int (nI x)) (C := RX1) (T := TX1) (N := 2) hx hb hts in_X1 hown hK hP 0 rfl rfl 0 (by decide) (hts _ q136) (fun _ h9 => h9) rfl dX1_jump_13 ?_
    refine lv_iload_n hx hb dX1_jump_16 rfl (lv_at hl 1 rfl) ?_
    refine vp_callSi (va_Run.run (va_runV (As := [.int (nI x), .int n]) (rest := [.ref h0]) ⟨hx, hb, hml, hown, hts⟩ (c_X1_go l dC dI h0 g1 (nI x) x hx0 n hn) (cwV 2 hts (lw_V q174 q176 qs8 q14 q177) rfl rfl rfl (by decide +kernel) ⟨Nat.le_of_ble_eq_true rfl, Nat.le_of_ble_eq_true rfl⟩) (jg_preR (ci := 1) (q0 := 0) hK hP rfl rfl rfl (hP.sub [0] rfl) (hK.sub [] rfl)) rfl rfl hl.1 rfl (lv_room (Nat.le_of_ble_eq_true rfl)) dX1_jump_17 ⟨Nat.le_of_ble_eq_true rfl, Nat.le_of_ble_eq_true rfl⟩)) (fun r2 (e_r2 : r2 = nI (jg_w x n.toInt)) => ?_)
    subst e_r2
    refine va_put (D := (dC, dI)) (ci := 1) (v := .int (nI (jg_w x n.toInt))) (ty := .int) (C := RX1) (T := TX1) (N := 2) hx hb hts in_X1 tyX1 tyX1_ok nmX1 hown hK hP hD hS 0 rfl rfl 0 (by decide) (hts _ q136) (fun _ h9 => h9) rfl (by decide +kernel) rfl rfl (Nat.le_of_ble_eq_true rfl) dX1_jump_20 (fun H locs hP hD hS => ?_)
    have hP : va_P (dC, dI) vwCl [(h0, oM (nI (jg_w x n.toInt)) g1)] H := hP
    have hD : va_D A [(h0, oM (nI (jg_w x n.toInt)) g1)] := hD
    refine lv_aload_n hx hb dX1_jump_23 rfl (lv_at hl 0 rfl) ?_
    refine va_get (D := (dC, dI)) (ci := 1) (v := .int (nI (jg_w x n.toInt))) (C := RX1) (T := TX1) (N := 2) hx hb hts in_X1 hown hK hP 0 rfl rfl 0 (by decide) (hts _ q136) (fun _ h9 => h9) rfl dX1_jump_24 ?_
    exact W.iret (v := nI (jg_w x n.toInt)) hx hb hr (fun t9 ht9 hW9 => ⟨⟨nI (jg_w x n.toInt), nI (jg_w x n.toInt), rfl, ⟨(if_pos hn).symm, (if_pos hn).symm⟩, by rw [ht9]; exact hP.sub [0] rfl, va_K.moved hW9.alike (hK.sub [] rfl), hD.sub [0] (by decide) rfl⟩, hS.F ht9⟩) hS.2.2 dX1_jump_27
  · have hn := jg_nearF c5
    refine lv_iconst (v := -1) hx hb dX1_jump_8 (by decide +kernel) ?_
    exact W.iret (v := (-1)) hx hb hr (fun t9 ht9 hW9 => ⟨⟨(-1), nI x, rfl, ⟨(if_neg hn).symm, (if_neg hn).symm⟩, by rw [ht9]; exact hP.sub [0] rfl, va_K.moved hW9.alike (hK.sub [] rfl), hD.sub [0] (by decide) rfl⟩, hS.F ht9⟩) hS.2.2 dX1_jump_9
set_option maxHeartbeats 4000000 in
set_option maxRecDepth 100000 in
/-- mark(m) -/
theorem c_X1_mark (l : Launch) (dC : Nat → ClassId) (dI : Nat → Nat → Nat) (h0 g1 : Nat) (sz : Nat) (d1 : ClassId) (cu : Int32) (f : Nat → Int32) (a : Int32) : Met l yX1_mark (ws_ yX1_mark cX1_mark 2 (some .boolean)) ({ frames := 0, cells := 0, slots := 0, locals := 0 }) (jg_Pw (dC, dI) sz [(h0, oM cu g1), (g1, aI d1 8 f)] [(d1, .int)] [.ref h0, .int a]) (va_Qi (fun (r : Int32) (f' : Nat → Int32) => r = jg_qMark a ∧ f' = jg_fMark f cu a) (fun (f' : Nat → Int32) t => jg_Bw (dC, dI) (va_A [(h0, oM cu g1), (g1, aI d1 8 f)] sz) [(h0, oM cu g1), (g1, aI d1 8 f')] [(d1, .int)] t) (va_A [(h0, oM cu g1), (g1, aI d1 8 f)] sz)) 0 0 (va_A [(h0, oM cu g1), (g1, aI d1 8 f)] sz) := by
  refine Met.ofW (cc := cX1_mark) (maxL := 2) (ret := (some .boolean)) (by decide) rfl ?_
  intro p e s m args below meth c s₁ B hml hv
  obtain ⟨rfl, hsz, hP, hK, hD0⟩ := hv
  have hx := B.exec
  have hb := B.bytes
  have hr := B.returns
  have hts := atoms_spec (ws := ws_ yX1_mark cX1_mark 2 (some .boolean)) B.pre
  have hts : ∀ w ∈ lw_all, w.before _ s = true := fun w h => hts w (List.mem_cons_of_mem _ h)
  have hown : s.vm.findClass RX1 = some m.cls := findClass_of_methodNamed B.named
  have hin : meth.name = "mark" := (name_of_methodNamed B.named B.method).1
  subst hsz
  have hD := hD0.self (sz := s.heap.size)
  generalize hAe : va_A [(h0, oM cu g1), (g1, aI d1 8 f)] s.heap.size = A at hD ⊢
  have hA : ∀ q : Nat, s.heap.size ≤ q → A q := fun q h => by rw [← hAe]; exact Or.inr h
  have hS : va_S A s.heap s.heap [] := va_S.rf
  have hP : va_P (dC, dI) vwCl [(h0, oM cu g1), (g1, aI d1 8 f)] s.heap := hP
  have hl := lv_entry ([.ref h0, .int a]) (n := 2) (Nat.le_of_ble_eq_true rfl)
  rw [lg_entry_eq]
  generalize (lg_sl ([.ref h0, .int a]) ++ List.replicate (2 - (lg_sl ([.ref h0, .int a])).length) Slot.unset).toArray = ls at hl ⊢
  have hl : lv_has ls 2 [(0, .ref h0), (1, .int a)] := hl
  refine lv_iload_n hx hb dX1_mark_0 rfl (lv_at hl 1 rfl) ?_
  refine lv_if_lt (tgt := 10) hx hb dX1_mark_1 (by decide) (fun c1 => ?_) (fun c1 => ?_)
  · have hM : ¬ jg_isM a := fun q => absurd q.1 (jg_nle c1)
    refine lv_iconst (v := nI 0) hx hb dX1_mark_10 (by decide +kernel) ?_
    exact W.zret (v := nI 0) hx hb hr rfl (fun t9 ht9 hW9 => ⟨⟨nI 0, f, rfl, ⟨(if_neg hM).symm, (if_neg hM).symm⟩, by rw [ht9]; exact hP.sub [0, 1] rfl, va_K.moved hW9.alike (hK.sub [0] rfl), hD.sub [0, 1] (by decide) rfl⟩, hS.F ht9⟩) hS.2.2 dX1_mark_11
  · refine lv_iload_n hx hb dX1_mark_4 rfl (lv_at hl 1 rfl) ?_
    refine lv_bipush (v := nI 7) hx hb dX1_mark_5 (by decide +kernel) ?_
    refine lv_icmp_le (tgt := 12) hx hb dX1_mark_7 (by decide) (fun c7 => ?_) (fun c7 => ?_)
    · have hM := jg_isM_7 c1 (jg_nlt c7)
      have hq : jg_fMark f cu a = upd f a.toNatClampNeg cu := if_pos hM
      have hq2 : jg_qMark a = 1 := if_pos hM
      obtain ⟨M, hM8, rfl⟩ := jg_isM_of hM
      rw [nI_clamp (by omega)] at hq
      refine lv_aload_n hx hb dX1_mark_12 rfl (lv_at hl 0 rfl) ?_
      refine va_get (D := (dC, dI)) (ci := 1) (v := .ref g1) (C := RX1) (T := TX1) (N := 2) hx hb hts in_X1 hown hK hP 0 rfl rfl 1 (by decide) (hts _ q137) (fun _ h9 => h9) rfl dX1_mark_13 ?_
      refine lv_iload_n hx hb dX1_mark_16 rfl (lv_at hl 1 rfl) ?_
      refine lv_aload_n hx hb dX1_mark_17 rfl (lv_at hl 0 rfl) ?_
      refine va_get (D := (dC, dI)) (ci := 1) (v := .int cu) (C := RX1) (T := TX1) (N := 2) hx hb hts in_X1 hown hK hP 0 rfl rfl 0 (by decide) (hts _ q136) (fun _ h9 => h9) rfl dX1_mark_18 ?_
      refine jg_iast (j := M) hx hb hK hP hD hS 1 0 rfl rfl hM8 (by decide) dX1_mark_21 (fun H locs hP hD hS => ?_)
      have hP : va_P (dC, dI) vwCl [(h0, oM cu g1), (g1, aI d1 8 (upd f M cu))] H := hP
      have hD : va_D A [(h0, oM cu g1), (g1, aI d1 8 (upd f M cu))] := hD
      refine lv_iconst (v := nI 1) hx hb dX1_mark_22 (by decide +kernel) ?_
      exact W.zret (v := nI 1) hx hb hr rfl (fun t9 ht9 hW9 => ⟨⟨nI 1, upd f M cu, rfl, ⟨hq2.symm, hq.symm⟩, by rw [ht9]; exact hP.sub [0, 1] rfl, va_K.moved hW9.alike (hK.sub [0] rfl), hD.sub [0, 1] (by decide) rfl⟩, hS.F ht9⟩) hS.2.2 dX1_mark_23
    · have hM := jg_isM_n7 (jg_gt c7)
      refine lv_iconst (v := nI 0) hx hb dX1_mark_10 (by decide +kernel) ?_
      exact W.zret (v := nI 0) hx hb hr rfl (fun t9 ht9 hW9 => ⟨⟨nI 0, f, rfl, ⟨(if_neg hM).symm, (if_neg hM).symm⟩, by rw [ht9]; exact hP.sub [0, 1] rfl, va_K.moved hW9.alike (hK.sub [0] rfl), hD.sub [0, 1] (by decide) rfl⟩, hS.F ht9⟩) hS.2.2 dX1_mark_11
set_option maxHeartbeats 4000000 in
set_option maxRecDepth 100000 in
/-- back(m) -/
theorem c_X1_back (l : Launch) (dC : Nat → ClassId) (dI : Nat → Nat → Nat) (h0 g1 : Nat) (sz : Nat) (d1 : ClassId) (cu : Int32) (f : Nat → Int32) (hf : jg_mk f) (a : Int32) : Met l yX1_back (ws_ yX1_back cX1_back 2 (some .boolean)) ({ frames := 1, cells := 0, slots := 0, locals := 21 }) (jg_Pw (dC, dI) sz [(h0, oM cu g1), (g1, aI d1 8 f)] [(d1, .int)] [.ref h0, .int a]) (va_Qi (fun (r : Int32) (c' : Int32) => r = jg_qBack f a ∧ c' = jg_cBack f cu a) (fun (c' : Int32) t => jg_Bw (dC, dI) (va_A [(h0, oM cu g1), (g1, aI d1 8 f)] sz) [(h0, oM c' g1), (g1, aI d1 8 f)] [(d1, .int)] t) (va_A [(h0, oM cu g1), (g1, aI d1 8 f)] sz)) 0 0 (va_A [(h0, oM cu g1), (g1, aI d1 8 f)] sz) := by
  refine Met.ofW (cc := cX1_back) (maxL := 2) (ret := (some .boolean)) (by decide) rfl ?_
  intro p e s m args below meth c s₁ B hml hv
  obtain ⟨rfl, hsz, hP, hK, hD0⟩ := hv
  have hx := B.exec
  have hb := B.bytes
  have hr := B.returns
  have hts := atoms_spec (ws := ws_ yX1_back cX1_back 2 (some .boolean)) B.pre
  have hts : ∀ w ∈ lw_all, w.before _ s = true := fun w h => hts w (List.mem_cons_of_mem _ h)
  have hown : s.vm.findClass RX1 = some m.cls := findClass_of_methodNamed B.named
  have hin : meth.name = "back" := (name_of_methodNamed B.named B.method).1
  subst hsz
  have hD := hD0.self (sz := s.heap.size)
  generalize hAe : va_A [(h0, oM cu g1), (g1, aI d1 8 f)] s.heap.size = A at hD ⊢
  have hA : ∀ q : Nat, s.heap.size ≤ q → A q := fun q h => by rw [← hAe]; exact Or.inr h
  have hS : va_S A s.heap s.heap [] := va_S.rf
  have hP : va_P (dC, dI) vwCl [(h0, oM cu g1), (g1, aI d1 8 f)] s.heap := hP
  have hl := lv_entry ([.ref h0, .int a]) (n := 2) (Nat.le_of_ble_eq_true rfl)
  rw [lg_entry_eq]
  generalize (lg_sl ([.ref h0, .int a]) ++ List.replicate (2 - (lg_sl ([.ref h0, .int a])).length) Slot.unset).toArray = ls at hl ⊢
  have hl : lv_has ls 2 [(0, .ref h0), (1, .int a)] := hl
  refine lv_aload_n hx hb dX1_back_0 rfl (lv_at hl 0 rfl) ?_
  refine lv_iload_n hx hb dX1_back_1 rfl (lv_at hl 1 rfl) ?_
  refine vp_callSi (va_Run.run (va_runV (As := [.int a]) (rest := []) ⟨hx, hb, hml, hown, hts⟩ (c_X1_holds l dC dI h0 g1 d1 cu f hf a) (cwV 1 hts (lw_V q194 q196 qs10 q14 q197) rfl rfl rfl (by decide +kernel) ⟨Nat.le_of_ble_eq_true rfl, Nat.le_of_ble_eq_true rfl⟩) (jg_preR (ci := 1) (q0 := 0) hK hP rfl rfl rfl (hP.sub [0, 1] rfl) (hK.sub [0] rfl)) rfl rfl hl.1 rfl (lv_room (Nat.le_of_ble_eq_true rfl)) dX1_back_2 ⟨Nat.le_of_ble_eq_true rfl, Nat.le_of_ble_eq_true rfl⟩)) (fun r1 (e_r1 : r1 = jg_qBack f a) => ?_)
  subst e_r1
  refine lv_if_ne (tgt := 10) hx hb dX1_back_5 (by decide) (fun c5 => ?_) (fun c5 => ?_)
  · have hM := jg_backT c5
    have hq : jg_cBack f cu a = f a.toNatClampNeg := if_pos hM
    have hq2 : jg_qBack f a = 1 := if_pos hM
    obtain ⟨M, hM8, rfl⟩ := jg_isM_of hM.1
    rw [nI_clamp (by omega)] at hq
    refine lv_aload_n hx hb dX1_back_10 rfl (lv_at hl 0 rfl) ?_
    refine lv_aload_n hx hb dX1_back_11 rfl (lv_at hl 0 rfl) ?_
    refine va_get (D := (dC, dI)) (ci := 1) (v := .ref g1) (C := RX1) (T := TX1) (N := 2) hx hb hts in_X1 hown hK hP 0 rfl rfl 1 (by decide) (hts _ q137) (fun _ h9 => h9) rfl dX1_back_12 ?_
    refine lv_iload_n hx hb dX1_back_15 rfl (lv_at hl 1 rfl) ?_
    refine jg_iald (j := M) hx hb hK hP 1 0 rfl rfl hM8 (by decide) dX1_back_16 ?_
    refine va_put (D := (dC, dI)) (ci := 1) (v := .int (f M)) (ty := .int) (C := RX1) (T := TX1) (N := 2) hx hb hts in_X1 tyX1 tyX1_ok nmX1 hown hK hP hD hS 0 rfl rfl 0 (by decide) (hts _ q136) (fun _ h9 => h9) rfl (by decide +kernel) rfl rfl (Nat.le_of_ble_eq_true rfl) dX1_back_17 (fun H locs hP hD hS => ?_)
    have hP : va_P (dC, dI) vwCl [(h0, oM (f M) g1), (g1, aI d1 8 f)] H := hP
    have hD : va_D A [(h0, oM (f M) g1), (g1, aI d1 8 f)] := hD
    refine lv_iconst (v := nI 1) hx hb dX1_back_20 (by decide +kernel) ?_
    exact W.zret (v := nI 1) hx hb hr rfl (fun t9 ht9 hW9 => ⟨⟨nI 1, f M, rfl, ⟨hq2.symm, hq.symm⟩, by rw [ht9]; exact hP.sub [0, 1] rfl, va_K.moved hW9.alike (hK.sub [0] rfl), hD.sub [0, 1] (by decide) rfl⟩, hS.F ht9⟩) hS.2.2 dX1_back_21
  · have hM := jg_backF c5
    refine lv_iconst (v := nI 0) hx hb dX1_back_8 (by decide +kernel) ?_
    exact W.zret (v := nI 0) hx hb hr rfl (fun t9 ht9 hW9 => ⟨⟨nI 0, cu, rfl, ⟨(if_neg hM).symm, (if_neg hM).symm⟩, by rw [ht9]; exact hP.sub [0, 1] rfl, va_K.moved hW9.alike (hK.sub [0] rfl), hD.sub [0, 1] (by decide) rfl⟩, hS.F ht9⟩) hS.2.2 dX1_back_9
set_option maxHeartbeats 4000000 in
set_option maxRecDepth 100000 in
/-- JumpGeneratorModel() -/
theorem c_X1_init (l : Launch) (dC : Nat → ClassId) (dI : Nat → Nat → Nat) (h0 sz : Nat) : Met l yX1_init (ws_ yX1_init cX1_init 1 none) ({ frames := 1, cells := 1, slots := 8, locals := 20 }) (jg_Pw (dC, dI) sz [(h0, .inr (1, [.int 0, .null]))] [] [.ref h0]) (va_Qv (fun _ : Unit => True) (fun _ t => ∃ (q1 : Nat) (e1 : ClassId), jg_Bw (dC, dI) (va_A [(h0, .inr (1, [.int 0, .null]))] sz) [(h0, oM (nI 1) q1), (q1, aI e1 8 (fun _ => 0))] [(e1, .int)] t) (va_A [(h0, .inr (1, [.int 0, .null]))] sz)) 1 8 (va_A [(h0, .inr (1, [.int 0, .null]))] sz) := by
  refine Met.ofW (cc := cX1_init) (maxL := 1) (ret := none) (by decide) rfl ?_
  intro p e s m args below meth c s₁ B hml hv
  obtain ⟨rfl, hsz, hP, hK, hD0⟩ := hv
  have hx := B.exec
  have hb := B.bytes
  have hr := B.returns
  have hts := atoms_spec (ws := ws_ yX1_init cX1_init 1 none) B.pre
  have hts : ∀ w ∈ lw_all, w.before _ s = true := fun w h => hts w (List.mem_cons_of_mem _ h)
  have hown : s.vm.findClass RX1 = some m.cls := findClass_of_methodNamed B.named
  have hin : meth.name = "<init>" := (name_of_methodNamed B.named B.method).1
  subst hsz
  have hD := hD0.self (sz := s.heap.size)
  generalize hAe : va_A [(h0, .inr (1, [.int 0, .null]))] s.heap.size = A at hD ⊢
  have hA : ∀ q : Nat, s.heap.size ≤ q → A q := fun q h => by rw [← hAe]; exact Or.inr h
  have hS : va_S A s.heap s.heap [] := va_S.rf
  have hP : va_P (dC, dI) vwCl [(h0, .inr (1, [.int 0, .null]))] s.heap := hP
  have hl := lv_entry ([.ref h0]) (n := 1) (Nat.le_of_ble_eq_true rfl)
  rw [lg_entry_eq]
  generalize (lg_sl ([.ref h0]) ++ List.replicate (1 - (lg_sl ([.ref h0])).length) Slot.unset).toArray = ls at hl ⊢
  have hl : lv_has ls 1 [(0, .ref h0)] := hl
  refine lv_aload_n hx hb dX1_init_0 rfl (lv_at hl 0 rfl) ?_
  refine W.objInit hx hb hown (hts _ q135) (hts _ q21) (hts _ q22) rfl (by rw [hml]; exact hl.1) rfl dX1_init_1 (Nat.le_of_ble_eq_true rfl) (Nat.le_of_ble_eq_true rfl) ?_
  refine W.eq (g2 := F0 m 4 ls []) rfl ?_
  refine lv_aload_n hx hb dX1_init_4 rfl (lv_at hl 0 rfl) ?_
  refine lv_bipush (v := nI 8) hx hb dX1_init_5 (by decide +kernel) ?_
  refine va_newa (atype := .int) (ty := .int) (N' := 8) (a0 := (8, .inl (fun _ => 0))) hx hb (hts _ q47) rfl hK hP hD hS hA (fun _ => rfl) (by decide +kernel) (by decide +kernel) (by decide) (Nat.le_of_ble_eq_true rfl) (Nat.le_of_ble_eq_true rfl) dX1_init_7 (fun q1 e1 H hK hP hD hS => ?_)
  have hP : va_P (dC, dI) vwCl [(h0, .inr (1, [.int 0, .null])), (q1, aI e1 8 (fun _ => 0))] H := hP
  have hD : va_D A [(h0, .inr (1, [.int 0, .null])), (q1, aI e1 8 (fun _ => 0))] := hD
  have hK : va_K (dC, dI) vwCl [(e1, .int)] s := hK
  refine va_put (D := (dC, dI)) (ci := 1) (v := .ref q1) (ty := .array .int) (C := RX1) (T := TX1) (N := 2) hx hb hts in_X1 tyX1 tyX1_ok nmX1 hown hK hP hD hS 0 rfl rfl 1 (by decide) (hts _ q137) (fun _ h9 => h9) rfl (by decide +kernel) rfl rfl (Nat.le_of_ble_eq_true rfl) dX1_init_9 (fun H locs hP hD hS => ?_)
  have hP : va_P (dC, dI) vwCl [(h0, oM 0 q1), (q1, aI e1 8 (fun _ => 0))] H := hP
  have hD : va_D A [(h0, oM 0 q1), (q1, aI e1 8 (fun _ => 0))] := hD
  refine lv_aload_n hx hb dX1_init_12 rfl (lv_at hl 0 rfl) ?_
  refine lv_iconst (v := nI 1) hx hb dX1_init_13 (by decide +kernel) ?_
  refine va_put (D := (dC, dI)) (ci := 1) (v := .int (nI 1)) (ty := .int) (C := RX1) (T := TX1) (N := 2) hx hb hts in_X1 tyX1 tyX1_ok nmX1 hown hK hP hD hS 0 rfl rfl 0 (by decide) (hts _ q136) (fun _ h9 => h9) rfl (by decide +kernel) rfl rfl (Nat.le_of_ble_eq_true rfl) dX1_init_14 (fun H locs hP hD hS => ?_)
  have hP : va_P (dC, dI) vwCl [(h0, oM (nI 1) q1), (q1, aI e1 8 (fun _ => 0))] H := hP
  have hD : va_D A [(h0, oM (nI 1) q1), (q1, aI e1 8 (fun _ => 0))] := hD
  refine W.widen (k := 1) (n := 8) (by omega) (by omega) ?_
  exact W.vret hx hb hr (fun t9 ht9 hW9 => ⟨⟨(), rfl, trivial, q1, e1, by rw [ht9]; exact hP.sub [0, 1] rfl, va_K.moved hW9.alike (hK.sub [0] rfl), hD.sub [0, 1] (by decide) rfl⟩, hS.F ht9⟩) hS.2.2 dX1_init_17
end
section
/-! JumpGenerator: its constructor, the table, distance, between -/
theorem jg_d_self {x : Nat} (x0 : 0 < x) (h : x < 65536) : jg_d x x = 0 := by
  obtain ⟨d1, d2⟩ := jg_d_spec x0 h x0 h
  exact jg_uni x0 h d1 (by omega) d2
set_option maxHeartbeats 4000000 in
set_option maxRecDepth 100000 in
/-- noteFrom(goal): the table holds the states 0 .. 255 steps on -/
theorem c_X0_noteFrom (l : Launch) (dC : Nat → ClassId) (dI : Nat → Nat → Nat) (h0 h1 h2 h3 h4 : Nat) (sz : Nat) (d3 d4 : ClassId) (cu : Int32) (ks st : Nat → Int32) (y : Nat) (y0 : 0 < y) (hy0 : y < 65536) : Met l yX0_noteFrom (ws_ yX0_noteFrom cX0_noteFrom 5 none) ({ frames := 1, cells := 0, slots := 0, locals := 23 }) (jg_Pw (dC, dI) sz [(h0, oX cu h1 h2 h3 h4), (h3, aI d3 1024 ks), (h4, aI d4 1024 st)] [(d3, .int), (d4, .short)] [.ref h0, .int (nI y)]) (va_Qv (fun (u : (Nat → Int32) × (Nat → Int32)) => jg_tb y 256 u.1 u.2) (fun (u : (Nat → Int32) × (Nat → Int32)) t => jg_Bw (dC, dI) (va_A [(h0, oX cu h1 h2 h3 h4), (h3, aI d3 1024 ks), (h4, aI d4 1024 st)] sz) [(h0, oX cu h1 h2 h3 h4), (h3, aI d3 1024 u.1), (h4, aI d4 1024 u.2)] [(d3, .int), (d4, .short)] t) (va_A [(h0, oX cu h1 h2 h3 h4), (h3, aI d3 1024 ks), (h4, aI d4 1024 st)] sz)) 0 0 (va_A [(h0, oX cu h1 h2 h3 h4), (h3, aI d3 1024 ks), (h4, aI d4 1024 st)] sz) := by
  refine Met.ofW (cc := cX0_noteFrom) (maxL := 5) (ret := none) (by decide) rfl ?_
  intro p e s m args below meth c s₁ B hml hv
  obtain ⟨rfl, hsz, hP, hK, hD0⟩ := hv
  have hx := B.exec
  have hb := B.bytes
  have hr := B.returns
  have hts := atoms_spec (ws := ws_ yX0_noteFrom cX0_noteFrom 5 none) B.pre
  have hts : ∀ w ∈ lw_all, w.before _ s = true := fun w h => hts w (List.mem_cons_of_mem _ h)
  have hown : s.vm.findClass RX0 = some m.cls := findClass_of_methodNamed B.named
  have hin : meth.name = "noteFrom" := (name_of_methodNamed B.named B.method).1
  subst hsz
  have hD := hD0.self (sz := s.heap.size)
  generalize hAe : va_A [(h0, oX cu h1 h2 h3 h4), (h3, aI d3 1024 ks), (h4, aI d4 1024 st)] s.heap.size = A at hD ⊢
  have hA : ∀ q : Nat, s.heap.size ≤ q → A q := fun q h => by rw [← hAe]; exact Or.inr h
  have hS : va_S A s.heap s.heap [] := va_S.rf
  have hP : va_P (dC, dI) vwCl [(h0, oX cu h1 h2 h3 h4), (h3, aI d3 1024 ks), (h4, aI d4 1024 st)] s.heap := hP
  have hl := lv_entry ([.ref h0, .int (nI y)]) (n := 5) (Nat.le_of_ble_eq_true rfl)
  rw [lg_entry_eq]
  generalize (lg_sl ([.ref h0, .int (nI y)]) ++ List.replicate (5 - (lg_sl ([.ref h0, .int (nI y)])).length) Slot.unset).toArray = ls at hl ⊢
  have hl : lv_has ls 5 [(0, .ref h0), (1, .int (nI y))] := hl
  refine lv_iconst (v := nI 0) hx hb dX0_noteFrom_0 (by decide +kernel) ?_
  refine lv_istore_n (lv' := [(2, .int (nI 0)), (0, .ref h0), (1, .int (nI y))]) hx hb dX0_noteFrom_1 rfl hl (by decide) rfl (fun ls hl => ?_)
  refine jg_loopH (fun i H locs ls => i ≤ 1024 ∧ ∃ k1 : Nat → Int32, (∀ j, j < i → k1 j = 0) ∧ va_P (dC, dI) vwCl [(h0, oX cu h1 h2 h3 h4), (h3, aI d3 1024 k1), (h4, aI d4 1024 st)] H ∧ va_D A [(h0, oX cu h1 h2 h3 h4), (h3, aI d3 1024 k1), (h4, aI d4 1024 st)] ∧ va_S A s.heap H locs ∧ lv_has ls 5 [(0, .ref h0), (1, .int (nI y)), (2, .int (nI i))]) (fun i => 1024 - i) ?_ 0 ls ⟨by omega, ks, fun j hj => absurd hj (Nat.not_lt_zero _), hP, hD, hS, lv_sub hl [1, 2, 0] rfl⟩
  intro i H locs ls hI ih
  obtain ⟨hi, k1, hz, hP, hD, hS, hl⟩ := hI
  refine lv_iload_n hx hb dX0_noteFrom_2 rfl (lv_at hl 2 rfl) ?_
  refine lv_sipush (v := nI 1024) hx hb dX0_noteFrom_3 (by decide +kernel) ?_
  refine lv_icmp_ge (tgt := 22) hx hb dX0_noteFrom_6 (by decide) (fun c6 => ?_) (fun c6 => ?_)
  · have q := (nI_leI (by omega) (by omega)).mp c6
    refine lv_iload_n hx hb dX0_noteFrom_22 rfl (lv_at hl 1 rfl) ?_
    refine lv_istore_n (lv' := [(2, .int (nI y)), (0, .ref h0), (1, .int (nI y))]) hx hb dX0_noteFrom_23 rfl hl (by decide) rfl (fun ls hl => ?_)
    refine lv_iconst (v := nI 0) hx hb dX0_noteFrom_24 (by decide +kernel) ?_
    refine lv_istore_n (lv' := [(3, .int (nI 0)), (2, .int (nI y)), (0, .ref h0), (1, .int (nI y))]) hx hb dX0_noteFrom_25 rfl hl (by decide) rfl (fun ls hl => ?_)
    refine jg_loopH (fun j H locs ls => j ≤ 256 ∧ ∃ k2 s2 : Nat → Int32, jg_tb y j k2 s2 ∧ va_P (dC, dI) vwCl [(h0, oX cu h1 h2 h3 h4), (h3, aI d3 1024 k2), (h4, aI d4 1024 s2)] H ∧ va_D A [(h0, oX cu h1 h2 h3 h4), (h3, aI d3 1024 k2), (h4, aI d4 1024 s2)] ∧ va_S A s.heap H locs ∧ lv_has ls 5 [(0, .ref h0), (1, .int (nI y)), (2, .int (nI (jg_i j y))), (3, .int (nI j))]) (fun j => 256 - j) ?_ 0 ls ⟨by omega, k1, st, jg_tb_0 (fun i9 h9 => hz i9 (by omega)), hP, hD, hS, lv_sub hl [2, 3, 1, 0] rfl⟩
    intro j H locs ls hI ih
    obtain ⟨hj, k2, s2, htb, hP, hD, hS, hl⟩ := hI
    refine lv_iload_n hx hb dX0_noteFrom_26 rfl (lv_at hl 3 rfl) ?_
    refine lv_sipush (v := nI 256) hx hb dX0_noteFrom_27 (by decide +kernel) ?_
    refine lv_icmp_ge (tgt := 68) hx hb dX0_noteFrom_30 (by decide) (fun c30 => ?_) (fun c30 => ?_)
    · obtain rfl : j = 256 := by have q := (nI_leI (by omega) (by omega)).mp c30; omega
      exact W.vret hx hb hr (fun t9 ht9 hW9 => ⟨⟨(k2, s2), rfl, htb, by rw [ht9]; exact hP.sub [0, 1, 2] rfl, va_K.moved hW9.alike (hK.sub [0, 1] rfl), hD.sub [0, 1, 2] (by decide) rfl⟩, hS.F ht9⟩) hS.2.2 dX0_noteFrom_68
    · have hj9 : j < 256 := Nat.lt_of_not_le (fun q => c30 ((nI_leI (by omega) (by omega)).mpr q))
      refine lv_aload_n hx hb dX0_noteFrom_33 rfl (lv_at hl 0 rfl) ?_
      refine lv_iload_n hx hb dX0_noteFrom_34 rfl (lv_at hl 2 rfl) ?_
      refine vp_callSi (va_Run.run (va_runV (As := [.int (nI (jg_i j y))]) (rest := []) ⟨hx, hb, hml, hown, hts⟩ (c_X0_placeOf l dC dI h0 h1 h2 h3 h4 d3 cu k2 (jg_i j y)) (cwV 1 hts (lw_V q101 q103 qs4 q13 q104) rfl rfl rfl (by decide +kernel) ⟨Nat.le_of_ble_eq_true rfl, Nat.le_of_ble_eq_true rfl⟩) (jg_preR (ci := 0) (q0 := 0) hK hP rfl rfl rfl (hP.sub [0, 1] rfl) (hK.sub [0] rfl)) rfl rfl hl.1 rfl (lv_room (Nat.le_of_ble_eq_true rfl)) dX0_noteFrom_35 ⟨Nat.le_of_ble_eq_true rfl, Nat.le_of_ble_eq_true rfl⟩)) (fun r1 (e_r1 : ∃ h : Nat, h < 1024 ∧ r1 = nI h ∧ jg_pl k2 (jg_i j y) h) => ?_)
      obtain ⟨h, hh, rfl, hpl⟩ := e_r1
      refine lv_istore (lv' := [(4, .int (nI h)), (0, .ref h0), (1, .int (nI y)), (2, .int (nI (jg_i j y))), (3, .int (nI j))]) hx hb dX0_noteFrom_38 hl (by decide) rfl (fun ls hl => ?_)
      refine lv_aload_n hx hb dX0_noteFrom_40 rfl (lv_at hl 1 rfl) ?_
      refine va_get (D := (dC, dI)) (ci := 0) (v := .ref h3) (C := RX0) (T := TX0) (N := 5) hx hb hts in_X0 hown hK hP 0 rfl rfl 3 (by decide) (hts _ q34) (fun _ h9 => h9) rfl dX0_noteFrom_41 ?_
      refine lv_iload hx hb dX0_noteFrom_44 (lv_at hl 0 rfl) ?_
      refine lv_iload_n hx hb dX0_noteFrom_46 rfl (lv_at hl 3 rfl) ?_
      refine jg_iast (j := h) hx hb hK hP hD hS 1 0 rfl rfl hh (by decide) dX0_noteFrom_47 (fun H locs hP hD hS => ?_)
      have hP : va_P (dC, dI) vwCl [(h0, oX cu h1 h2 h3 h4), (h3, aI d3 1024 (upd k2 h (nI (jg_i j y)))), (h4, aI d4 1024 s2)] H := hP
      have hD : va_D A [(h0, oX cu h1 h2 h3 h4), (h3, aI d3 1024 (upd k2 h (nI (jg_i j y)))), (h4, aI d4 1024 s2)] := hD
      refine lv_aload_n hx hb dX0_noteFrom_48 rfl (lv_at hl 1 rfl) ?_
      refine va_get (D := (dC, dI)) (ci := 0) (v := .ref h4) (C := RX0) (T := TX0) (N := 5) hx hb hts in_X0 hown hK hP 0 rfl rfl 4 (by decide) (hts _ q35) (fun _ h9 => h9) rfl dX0_noteFrom_49 ?_
      refine lv_iload hx hb dX0_noteFrom_52 (lv_at hl 0 rfl) ?_
      refine lv_iload_n hx hb dX0_noteFrom_54 rfl (lv_at hl 4 rfl) ?_
      refine lv_i2s (v := nI j) hx hb dX0_noteFrom_55 (jg_short j hj9) ?_
      refine jg_sast (j := h) hx hb hK hP hD hS 2 1 rfl rfl hh (by decide) (jg_nars j hj9) dX0_noteFrom_56 (fun H locs hP hD hS => ?_)
      have hP : va_P (dC, dI) vwCl [(h0, oX cu h1 h2 h3 h4), (h3, aI d3 1024 (upd k2 h (nI (jg_i j y)))), (h4, aI d4 1024 (upd s2 h (nI j)))] H := hP
      have hD : va_D A [(h0, oX cu h1 h2 h3 h4), (h3, aI d3 1024 (upd k2 h (nI (jg_i j y)))), (h4, aI d4 1024 (upd s2 h (nI j)))] := hD
      refine lv_iload_n hx hb dX0_noteFrom_57 rfl (lv_at hl 3 rfl) ?_
      refine vp_callSi (va_Run.run (va_runS (As := [.int (nI (jg_i j y))]) (rest := []) ⟨hx, hb, hml, hown, hts⟩ (c_X0_step l dC dI (jg_i j y) (jg_i_lt hy0)) (va_cwS 1 hts (lw_S q23 q24 q13 q25) rfl rfl rfl (by decide +kernel) ⟨Nat.le_of_ble_eq_true rfl, Nat.le_of_ble_eq_true rfl⟩) jg_preN rfl rfl hl.1 rfl (lv_room (Nat.le_of_ble_eq_true rfl)) dX0_noteFrom_58 ⟨Nat.le_of_ble_eq_true rfl, Nat.le_of_ble_eq_true rfl⟩)) (fun r2 (e_r2 : r2 = nI (jg_T (jg_i j y))) => ?_)
      subst e_r2
      refine lv_istore_n (lv' := [(2, .int (nI (jg_T (jg_i j y)))), (4, .int (nI h)), (0, .ref h0), (1, .int (nI y)), (3, .int (nI j))]) hx hb dX0_noteFrom_61 rfl hl (by decide) rfl (fun ls hl => ?_)
      refine lv_iinc (v := nI (j + 1)) (lv' := [(3, .int (nI (j + 1))), (2, .int (nI (jg_T (jg_i j y)))), (4, .int (nI h)), (0, .ref h0), (1, .int (nI y))]) hx hb dX0_noteFrom_62 hl (k := 4) rfl (nI_1 j) (by decide) rfl (fun ls hl => ?_)
      refine lv_goto (tgt := 26) hx hb dX0_noteFrom_65 (by decide) ?_
      exact ih (j + 1) H locs ls (by omega) ⟨by omega, _, _, jg_tb_put y0 hy0 hj9 htb hpl, hP, hD, hS, lv_sub hl [3, 4, 1, 0] rfl⟩
  · have hi9 : i < 1024 := Nat.lt_of_not_le (fun q => c6 ((nI_leI (by omega) (by omega)).mpr q))
    refine lv_aload_n hx hb dX0_noteFrom_9 rfl (lv_at hl 0 rfl) ?_
    refine va_get (D := (dC, dI)) (ci := 0) (v := .ref h3) (C := RX0) (T := TX0) (N := 5) hx hb hts in_X0 hown hK hP 0 rfl rfl 3 (by decide) (hts _ q34) (fun _ h9 => h9) rfl dX0_noteFrom_10 ?_
    refine lv_iload_n hx hb dX0_noteFrom_13 rfl (lv_at hl 2 rfl) ?_
    refine lv_iconst (v := nI 0) hx hb dX0_noteFrom_14 (by decide +kernel) ?_
    refine jg_iast (j := i) hx hb hK hP hD hS 1 0 rfl rfl hi9 (by decide) dX0_noteFrom_15 (fun H locs hP hD hS => ?_)
    have hP : va_P (dC, dI) vwCl [(h0, oX cu h1 h2 h3 h4), (h3, aI d3 1024 (upd k1 i (nI 0))), (h4, aI d4 1024 st)] H := hP
    have hD : va_D A [(h0, oX cu h1 h2 h3 h4), (h3, aI d3 1024 (upd k1 i (nI 0))), (h4, aI d4 1024 st)] := hD
    refine lv_iinc (v := nI (i + 1)) (lv' := [(2, .int (nI (i + 1))), (0, .ref h0), (1, .int (nI y))]) hx hb dX0_noteFrom_16 hl (k := 2) rfl (nI_1 i) (by decide) rfl (fun ls hl => ?_)
    refine lv_goto (tgt := 2) hx hb dX0_noteFrom_19 (by decide) ?_
    exact ih (i + 1) H locs ls (by omega) ⟨by omega, _, fun j hj => by by_cases e9 : j = i; rw [e9, pk_us, nI_0]; rw [pk_un e9]; exact hz j (by omega), hP, hD, hS, lv_sub hl [1, 2, 0] rfl⟩
set_option maxHeartbeats 4000000 in
set_option maxRecDepth 100000 in
/-- steps(from, goal) -/
theorem c_X0_steps (l : Launch) (dC : Nat → ClassId) (dI : Nat → Nat → Nat) (h0 h1 h2 h3 h4 : Nat) (sz : Nat) (d2 d3 d4 : ClassId) (cu : Int32) (f ks st : Nat → Int32) (hf : jg_im f) (x y : Nat) (x0 : 0 < x) (hx0 : x < 65536) (y0 : 0 < y) (hy0 : y < 65536) : Met l yX0_steps (ws_ yX0_steps cX0_steps 6 (some .int)) ({ frames := 2, cells := 0, slots := 0, locals := 47 }) (jg_Pw (dC, dI) sz [(h0, oX cu h1 h2 h3 h4), (h2, aI d2 272 f), (h3, aI d3 1024 ks), (h4, aI d4 1024 st)] [(d2, .int), (d3, .int), (d4, .short)] [.ref h0, .int (nI x), .int (nI y)]) (va_Qi (fun (r : Int32) (_ : (Nat → Int32) × (Nat → Int32)) => r = nI (jg_d x y)) (fun (u : (Nat → Int32) × (Nat → Int32)) t => jg_Bw (dC, dI) (va_A [(h0, oX cu h1 h2 h3 h4), (h2, aI d2 272 f), (h3, aI d3 1024 ks), (h4, aI d4 1024 st)] sz) [(h0, oX cu h1 h2 h3 h4), (h2, aI d2 272 f), (h3, aI d3 1024 u.1), (h4, aI d4 1024 u.2)] [(d2, .int), (d3, .int), (d4, .short)] t) (va_A [(h0, oX cu h1 h2 h3 h4), (h2, aI d2 272 f), (h3, aI d3 1024 ks), (h4, aI d4 1024 st)] sz)) 0 0 (va_A [(h0, oX cu h1 h2 h3 h4), (h2, aI d2 272 f), (h3, aI d3 1024 ks), (h4, aI d4 1024 st)] sz) := by
  refine Met.ofW (cc := cX0_steps) (maxL := 6) (ret := (some .int)) (by decide) rfl ?_
  intro p e s m args below meth c s₁ B hml hv
  obtain ⟨rfl, hsz, hP, hK, hD0⟩ := hv
  have hx := B.exec
  have hb := B.bytes
  have hr := B.returns
  have hts := atoms_spec (ws := ws_ yX0_steps cX0_steps 6 (some .int)) B.pre
  have hts : ∀ w ∈ lw_all, w.before _ s = true := fun w h => hts w (List.mem_cons_of_mem _ h)
  have hown : s.vm.findClass RX0 = some m.cls := findClass_of_methodNamed B.named
  have hin : meth.name = "steps" := (name_of_methodNamed B.named B.method).1
  subst hsz
  have hD := hD0.self (sz := s.heap.size)
  generalize hAe : va_A [(h0, oX cu h1 h2 h3 h4), (h2, aI d2 272 f), (h3, aI d3 1024 ks), (h4, aI d4 1024 st)] s.heap.size = A at hD ⊢
  have hA : ∀ q : Nat, s.heap.size ≤ q → A q := fun q h => by rw [← hAe]; exact Or.inr h
  have hS : va_S A s.heap s.heap [] := va_S.rf
  have hP : va_P (dC, dI) vwCl [(h0, oX cu h1 h2 h3 h4), (h2, aI d2 272 f), (h3, aI d3 1024 ks), (h4, aI d4 1024 st)] s.heap := hP
  have hl := lv_entry ([.ref h0, .int (nI x), .int (nI y)]) (n := 6) (Nat.le_of_ble_eq_true rfl)
  rw [lg_entry_eq]
  generalize (lg_sl ([.ref h0, .int (nI x), .int (nI y)]) ++ List.replicate (6 - (lg_sl ([.ref h0, .int (nI x), .int (nI y)])).length) Slot.unset).toArray = ls at hl ⊢
  have hl : lv_has ls 6 [(0, .ref h0), (1, .int (nI x)), (2, .int (nI y))] := hl
  refine lv_iload_n hx hb dX0_steps_0 rfl (lv_at hl 1 rfl) ?_
  refine lv_iload_n hx hb dX0_steps_1 rfl (lv_at hl 2 rfl) ?_
  refine lv_icmp_ne (tgt := 7) hx hb dX0_steps_2 (by decide) (fun c2 => ?_) (fun c2 => ?_)
  · obtain ⟨e1, e2⟩ := jg_d_spec x0 hx0 y0 hy0
    generalize jg_d x y = E at e1 e2 ⊢
    have hE : 0 < E := Nat.pos_of_ne_zero (fun q => c2 (by rw [q] at e2; rw [← e2]; rfl))
    refine lv_aload_n hx hb dX0_steps_7 rfl (lv_at hl 0 rfl) ?_
    refine lv_iload_n hx hb dX0_steps_8 rfl (lv_at hl 2 rfl) ?_
    have hPc := hP.sub (ws' := [(h0, oX cu h1 h2 h3 h4), (h3, aI d3 1024 ks), (h4, aI d4 1024 st)]) [0, 2, 3] rfl
    have hDc := hD.sub (ws' := [(h0, oX cu h1 h2 h3 h4), (h3, aI d3 1024 ks), (h4, aI d4 1024 st)]) [0, 2, 3] (by decide) rfl
    have hKc := hK.sub (tys' := [(d3, .int), (d4, .short)]) [1, 2] rfl
    have hFc := va_free (wc := [(h0, oX cu h1 h2 h3 h4), (h3, aI d3 1024 ks), (h4, aI d4 1024 st)]) hD hS hA [0, 2, 3] rfl
    refine va_callv (va_runV (As := [.int (nI y)]) (rest := []) ⟨hx, hb, hml, hown, hts⟩ (c_X0_noteFrom l dC dI h0 h1 h2 h3 h4 s.heap.size d3 d4 cu ks st y y0 hy0) (cwV 1 hts (lw_V q97 q99 qs3 q13 q100) rfl rfl rfl (by decide +kernel) ⟨Nat.le_of_ble_eq_true rfl, Nat.le_of_ble_eq_true rfl⟩) (jg_preW (ci := 0) (q0 := 0) hK hP rfl rfl rfl hPc hKc hDc) rfl rfl hl.1 rfl (lv_room (Nat.le_of_ble_eq_true rfl)) dX0_steps_9 ⟨Nat.le_of_ble_eq_true rfl, Nat.le_of_ble_eq_true rfl⟩) hS (fun q _ h => hFc q h) hFc (fun u t H1 locs ht hvm htb hB hz1 hk1 hS => ?_)
    obtain ⟨k2, s2⟩ := u
    obtain ⟨hP1, hK1, hD1⟩ := hB
    rw [ht] at hP1
    obtain ⟨hP, hD⟩ := va_join (wr := [(h2, aI d2 272 f)]) (w1 := [(h0, oX cu h1 h2 h3 h4), (h3, aI d3 1024 k2), (h4, aI d4 1024 s2)]) hP hD [0, 2, 3] [1] rfl rfl (by decide) (by decide) hk1 hFc hP1 hD1
    generalize H1 = H at hP hS ⊢
    have hP : va_P (dC, dI) vwCl [(h2, aI d2 272 f), (h0, oX cu h1 h2 h3 h4), (h3, aI d3 1024 k2), (h4, aI d4 1024 s2)] H := hP
    have hD : va_D A [(h2, aI d2 272 f), (h0, oX cu h1 h2 h3 h4), (h3, aI d3 1024 k2), (h4, aI d4 1024 s2)] := hD
    have htb : jg_tb y 256 k2 s2 := htb
    refine lv_iload_n hx hb dX0_steps_12 rfl (lv_at hl 1 rfl) ?_
    refine lv_istore_n (lv' := [(3, .int (nI x)), (0, .ref h0), (1, .int (nI x)), (2, .int (nI y))]) hx hb dX0_steps_13 rfl hl (by decide) rfl (fun ls hl => ?_)
    refine lv_iconst (v := nI 1) hx hb dX0_steps_14 (by decide +kernel) ?_
    refine lv_istore (lv' := [(4, .int (nI 1)), (3, .int (nI x)), (0, .ref h0), (1, .int (nI x)), (2, .int (nI y))]) hx hb dX0_steps_15 hl (by decide) rfl (fun ls hl => ?_)
    refine jg_loop (fun k ls => 256 * k < E ∧ lv_has ls 6 [(0, .ref h0), (1, .int (nI x)), (2, .int (nI y)), (3, .int (nI (jg_i (256 * k) x))), (4, .int (nI (k + 1)))]) (fun k => 256 - k) ?_ 0 ls ⟨by omega, lv_sub hl [2, 3, 4, 1, 0] rfl⟩
    intro k ls hI ih
    obtain ⟨hk, hl⟩ := hI
    refine lv_iload hx hb dX0_steps_17 (lv_at hl 4 rfl) ?_
    refine lv_sipush (v := nI 256) hx hb dX0_steps_19 (by decide +kernel) ?_
    refine lv_icmp_gt (tgt := 72) hx hb dX0_steps_22 (by decide) (fun c22 => ?_) (fun c22 => ?_)
    · exact absurd ((nI_ltI (by omega) (by omega)).mp c22) (by omega)
    · refine lv_aload_n hx hb dX0_steps_25 rfl (lv_at hl 0 rfl) ?_
      refine lv_bipush (v := nI 8) hx hb dX0_steps_26 (by decide +kernel) ?_
      refine lv_iload_n hx hb dX0_steps_28 rfl (lv_at hl 3 rfl) ?_
      refine vp_callSi (va_Run.run (va_runV (As := [.int (nI 8), .int (nI (jg_i (256 * k) x))]) (rest := []) ⟨hx, hb, hml, hown, hts⟩ (c_X0_apply l dC dI h0 h1 h2 h3 h4 d2 cu f (fun i => jg_i (2 ^ 8) (2 ^ i)) 8 (jg_i (256 * k) x) (by omega) (jg_i_lt hx0) (fun i hi => hf 8 (by omega) i hi)) (cwV 2 hts (lw_V q27 q29 qs0 q13 q30) rfl rfl rfl (by decide +kernel) ⟨Nat.le_of_ble_eq_true rfl, Nat.le_of_ble_eq_true rfl⟩) (jg_preR (ci := 0) (q0 := 1) hK hP rfl rfl rfl (hP.sub [1, 0] rfl) (hK.sub [0] rfl)) rfl rfl hl.1 rfl (lv_room (Nat.le_of_ble_eq_true rfl)) dX0_steps_29 ⟨Nat.le_of_ble_eq_true rfl, Nat.le_of_ble_eq_true rfl⟩)) (fun r1 (e_r1 : r1 = nI (jg_ap (fun i => jg_i (2 ^ 8) (2 ^ i)) (jg_i (256 * k) x) 16)) => ?_)
      subst e_r1
      refine jg_top (y := nI (jg_i (256 * (k + 1)) x)) (by rw [jg_ap_eq _ (2 ^ 8) (fun _ _ => rfl) (jg_i_lt hx0), ← jg_i_add]; congr 2; omega) ?_
      have hz0 := jg_pos (n := 256 * (k + 1)) x0 hx0
      have hz1 := jg_i_lt (n := 256 * (k + 1)) hx0
      refine lv_istore_n (lv' := [(3, .int (nI (jg_i (256 * (k + 1)) x))), (0, .ref h0), (1, .int (nI x)), (2, .int (nI y)), (4, .int (nI (k + 1)))]) hx hb dX0_steps_32 rfl hl (by decide) rfl (fun ls hl => ?_)
      refine lv_aload_n hx hb dX0_steps_33 rfl (lv_at hl 1 rfl) ?_
      refine lv_iload_n hx hb dX0_steps_34 rfl (lv_at hl 0 rfl) ?_
      refine vp_callSi (va_Run.run (va_runV (As := [.int (nI (jg_i (256 * (k + 1)) x))]) (rest := []) ⟨hx, hb, hml, hown, hts⟩ (c_X0_placeOf l dC dI h0 h1 h2 h3 h4 d3 cu k2 (jg_i (256 * (k + 1)) x)) (cwV 1 hts (lw_V q101 q103 qs4 q13 q104) rfl rfl rfl (by decide +kernel) ⟨Nat.le_of_ble_eq_true rfl, Nat.le_of_ble_eq_true rfl⟩) (jg_preR (ci := 0) (q0 := 1) hK hP rfl rfl rfl (hP.sub [1, 2] rfl) (hK.sub [1] rfl)) rfl rfl hl.1 rfl (lv_room (Nat.le_of_ble_eq_true rfl)) dX0_steps_35 ⟨Nat.le_of_ble_eq_true rfl, Nat.le_of_ble_eq_true rfl⟩)) (fun r2 (e_r2 : ∃ h : Nat, h < 1024 ∧ r2 = nI h ∧ jg_pl k2 (jg_i (256 * (k + 1)) x) h) => ?_)
      obtain ⟨h, hh, rfl, hpl⟩ := e_r2
      refine lv_istore (lv' := [(5, .int (nI h)), (3, .int (nI (jg_i (256 * (k + 1)) x))), (0, .ref h0), (1, .int (nI x)), (2, .int (nI y)), (4, .int (nI (k + 1)))]) hx hb dX0_steps_38 hl (by decide) rfl (fun ls hl => ?_)
      refine lv_aload_n hx hb dX0_steps_40 rfl (lv_at hl 2 rfl) ?_
      refine va_get (D := (dC, dI)) (ci := 0) (v := .ref h3) (C := RX0) (T := TX0) (N := 5) hx hb hts in_X0 hown hK hP 1 rfl rfl 3 (by decide) (hts _ q34) (fun _ h9 => h9) rfl dX0_steps_41 ?_
      refine lv_iload hx hb dX0_steps_44 (lv_at hl 0 rfl) ?_
      refine jg_iald (j := h) hx hb hK hP 2 1 rfl rfl hh (by decide) dX0_steps_46 ?_
      refine lv_iload_n hx hb dX0_steps_47 rfl (lv_at hl 1 rfl) ?_
      refine lv_icmp_ne (tgt := 66) hx hb dX0_steps_48 (by decide) (fun c48 => ?_) (fun c48 => ?_)
      · have hk2 : 256 * (k + 1) < E := by
          rcases Nat.lt_or_ge (256 * (k + 1)) E with q | q
          · exact q
          · exfalso
            have ez : jg_i (256 * (k + 1)) x = jg_i (256 * (k + 1) - E) y := by rw [← e2, ← jg_i_add]; congr 1; omega
            rw [ez] at hpl c48
            exact c48 (jg_tb_find y0 hy0 htb (by omega) hpl)
        refine lv_iinc (v := nI (k + 1 + 1)) (lv' := [(4, .int (nI (k + 1 + 1))), (5, .int (nI h)), (3, .int (nI (jg_i (256 * (k + 1)) x))), (0, .ref h0), (1, .int (nI x)), (2, .int (nI y))]) hx hb dX0_steps_66 hl (k := 5) rfl (nI_1 (k + 1)) (by decide) rfl (fun ls hl => ?_)
        refine lv_goto (tgt := 17) hx hb dX0_steps_69 (by decide) ?_
        exact ih (k + 1) ls (by omega) ⟨hk2, lv_sub hl [3, 4, 5, 2, 0] rfl⟩
      · obtain ⟨a, ha, ez, es⟩ := jg_tb_hit hy0 htb hz0 hz1 hh c48
        have hg := jg_giant x0 hx0 e1 e2 (i := k + 1) (by omega) ha ez (by omega)
        refine lv_sipush (v := nI 256) hx hb dX0_steps_51 (by decide +kernel) ?_
        refine lv_iload hx hb dX0_steps_54 (lv_at hl 5 rfl) ?_
        refine lv_imul hx hb dX0_steps_56 ?_
        refine lv_aload_n hx hb dX0_steps_57 rfl (lv_at hl 2 rfl) ?_
        refine va_get (D := (dC, dI)) (ci := 0) (v := .ref h4) (C := RX0) (T := TX0) (N := 5) hx hb hts in_X0 hown hK hP 1 rfl rfl 4 (by decide) (hts _ q35) (fun _ h9 => h9) rfl dX0_steps_58 ?_
        refine lv_iload hx hb dX0_steps_61 (lv_at hl 0 rfl) ?_
        refine jg_sald (j := h) hx hb hK hP 3 2 rfl rfl hh (by decide) dX0_steps_63 ?_
        refine jg_top (y := nI a) es ?_
        refine lv_isub hx hb dX0_steps_64 ?_
        refine jg_top (y := nI E) (by rw [pk_mul, pk_sub (by omega)]; congr 1; omega) ?_
        exact W.iret (v := nI E) hx hb hr (fun t9 ht9 hW9 => ⟨⟨nI E, (k2, s2), rfl, rfl, by rw [ht9]; exact hP.sub [1, 0, 2, 3] rfl, va_K.moved hW9.alike (hK.sub [0, 1, 2] rfl), hD.sub [1, 0, 2, 3] (by decide) rfl⟩, hS.F ht9⟩) hS.2.2 dX0_steps_65
  · obtain rfl := jg_ninj hx0 hy0 c2
    refine lv_iconst (v := nI 0) hx hb dX0_steps_5 (by decide +kernel) ?_
    exact W.iret (v := nI 0) hx hb hr (fun t9 ht9 hW9 => ⟨⟨nI 0, (ks, st), rfl, by rw [jg_d_self x0 hx0], by rw [ht9]; exact hP.sub [0, 1, 2, 3] rfl, va_K.moved hW9.alike (hK.sub [0, 1, 2] rfl), hD.sub [0, 1, 2, 3] (by decide) rfl⟩, hS.F ht9⟩) hS.2.2 dX0_steps_6
set_option maxHeartbeats 4000000 in
set_option maxRecDepth 100000 in
/-- distance(s) -/
theorem c_X0_distance (l : Launch) (dC : Nat → ClassId) (dI : Nat → Nat → Nat) (h0 h1 h2 h3 h4 : Nat) (sz : Nat) (d2 d3 d4 : ClassId) (x : Nat) (x0 : 0 < x) (hx0 : x < 65536) (f ks st : Nat → Int32) (hf : jg_im f) (a : Int32) : Met l yX0_distance (ws_ yX0_distance cX0_distance 2 (some .int)) ({ frames := 3, cells := 0, slots := 0, locals := 72 }) (jg_Pw (dC, dI) sz [(h0, oX (nI x) h1 h2 h3 h4), (h2, aI d2 272 f), (h3, aI d3 1024 ks), (h4, aI d4 1024 st)] [(d2, .int), (d3, .int), (d4, .short)] [.ref h0, .int a]) (va_Qi (fun (r : Int32) (_ : (Nat → Int32) × (Nat → Int32)) => r = jg_qDist x a) (fun (u : (Nat → Int32) × (Nat → Int32)) t => jg_Bw (dC, dI) (va_A [(h0, oX (nI x) h1 h2 h3 h4), (h2, aI d2 272 f), (h3, aI d3 1024 ks), (h4, aI d4 1024 st)] sz) [(h0, oX (nI x) h1 h2 h3 h4), (h2, aI d2 272 f), (h3, aI d3 1024 u.1), (h4, aI d4 1024 u.2)] [(d2, .int), (d3, .int), (d4, .short)] t) (va_A [(h0, oX (nI x) h1 h2 h3 h4), (h2, aI d2 272 f), (h3, aI d3 1024 ks), (h4, aI d4 1024 st)] sz)) 0 0 (va_A [(h0, oX (nI x) h1 h2 h3 h4), (h2, aI d2 272 f), (h3, aI d3 1024 ks), (h4, aI d4 1024 st)] sz) := by
  refine Met.ofW (cc := cX0_distance) (maxL := 2) (ret := (some .int)) (by decide) rfl ?_
  intro p e s m args below meth c s₁ B hml hv
  obtain ⟨rfl, hsz, hP, hK, hD0⟩ := hv
  have hx := B.exec
  have hb := B.bytes
  have hr := B.returns
  have hts := atoms_spec (ws := ws_ yX0_distance cX0_distance 2 (some .int)) B.pre
  have hts : ∀ w ∈ lw_all, w.before _ s = true := fun w h => hts w (List.mem_cons_of_mem _ h)
  have hown : s.vm.findClass RX0 = some m.cls := findClass_of_methodNamed B.named
  have hin : meth.name = "distance" := (name_of_methodNamed B.named B.method).1
  subst hsz
  have hD := hD0.self (sz := s.heap.size)
  generalize hAe : va_A [(h0, oX (nI x) h1 h2 h3 h4), (h2, aI d2 272 f), (h3, aI d3 1024 ks), (h4, aI d4 1024 st)] s.heap.size = A at hD ⊢
  have hA : ∀ q : Nat, s.heap.size ≤ q → A q := fun q h => by rw [← hAe]; exact Or.inr h
  have hS : va_S A s.heap s.heap [] := va_S.rf
  have hP : va_P (dC, dI) vwCl [(h0, oX (nI x) h1 h2 h3 h4), (h2, aI d2 272 f), (h3, aI d3 1024 ks), (h4, aI d4 1024 st)] s.heap := hP
  have hl := lv_entry ([.ref h0, .int a]) (n := 2) (Nat.le_of_ble_eq_true rfl)
  rw [lg_entry_eq]
  generalize (lg_sl ([.ref h0, .int a]) ++ List.replicate (2 - (lg_sl ([.ref h0, .int a])).length) Slot.unset).toArray = ls at hl ⊢
  have hl : lv_has ls 2 [(0, .ref h0), (1, .int a)] := hl
  refine lv_iload_n hx hb dX0_distance_0 rfl (lv_at hl 1 rfl) ?_
  refine vp_callSi (va_Run.run (va_runS (As := [.int a]) (rest := []) ⟨hx, hb, hml, hown, hts⟩ (c_X0_isState l dC dI a) (va_cwS 1 hts (lw_S q53 q54 q13 q55) rfl rfl rfl (by decide +kernel) ⟨Nat.le_of_ble_eq_true rfl, Nat.le_of_ble_eq_true rfl⟩) jg_preN rfl rfl hl.1 rfl (lv_room (Nat.le_of_ble_eq_true rfl)) dX0_distance_1 ⟨Nat.le_of_ble_eq_true rfl, Nat.le_of_ble_eq_true rfl⟩)) (fun r1 (e_r1 : r1 = jg_qSeed a) => ?_)
  subst e_r1
  refine lv_if_eq (tgt := 19) hx hb dX0_distance_4 (by decide) (fun c4 => ?_) (fun c4 => ?_)
  · refine lv_iconst (v := -1) hx hb dX0_distance_19 (by decide +kernel) ?_
    exact W.iret (v := (-1)) hx hb hr (fun t9 ht9 hW9 => ⟨⟨(-1), (ks, st), rfl, (if_neg (jg_seedF c4)).symm, by rw [ht9]; exact hP.sub [0, 1, 2, 3] rfl, va_K.moved hW9.alike (hK.sub [0, 1, 2] rfl), hD.sub [0, 1, 2, 3] (by decide) rfl⟩, hS.F ht9⟩) hS.2.2 dX0_distance_20
  · have hs := jg_seedT c4
    have hq : jg_qDist x a = nI (jg_d x a.toNatClampNeg) := if_pos hs
    obtain ⟨y, y0, y1, rfl⟩ := jg_isS_of hs
    rw [nI_clamp (by omega)] at hq
    refine lv_aload_n hx hb dX0_distance_7 rfl (lv_at hl 0 rfl) ?_
    refine lv_aload_n hx hb dX0_distance_8 rfl (lv_at hl 0 rfl) ?_
    refine va_get (D := (dC, dI)) (ci := 0) (v := .int (nI x)) (C := RX0) (T := TX0) (N := 5) hx hb hts in_X0 hown hK hP 0 rfl rfl 0 (by decide) (hts _ q31) (fun _ h9 => h9) rfl dX0_distance_9 ?_
    refine lv_iload_n hx hb dX0_distance_12 rfl (lv_at hl 1 rfl) ?_
    have hPc := hP.sub (ws' := [(h0, oX (nI x) h1 h2 h3 h4), (h2, aI d2 272 f), (h3, aI d3 1024 ks), (h4, aI d4 1024 st)]) [0, 1, 2, 3] rfl
    have hDc := hD.sub (ws' := [(h0, oX (nI x) h1 h2 h3 h4), (h2, aI d2 272 f), (h3, aI d3 1024 ks), (h4, aI d4 1024 st)]) [0, 1, 2, 3] (by decide) rfl
    have hKc := hK.sub (tys' := [(d2, .int), (d3, .int), (d4, .short)]) [0, 1, 2] rfl
    have hFc := va_free (wc := [(h0, oX (nI x) h1 h2 h3 h4), (h2, aI d2 272 f), (h3, aI d3 1024 ks), (h4, aI d4 1024 st)]) hD hS hA [0, 1, 2, 3] rfl
    refine va_calli (va_runV (As := [.int (nI x), .int (nI y)]) (rest := []) ⟨hx, hb, hml, hown, hts⟩ (c_X0_steps l dC dI h0 h1 h2 h3 h4 s.heap.size d2 d3 d4 (nI x) f ks st hf x y x0 hx0 y0 y1) (cwV 2 hts (lw_V q93 q95 qs2 q13 q96) rfl rfl rfl (by decide +kernel) ⟨Nat.le_of_ble_eq_true rfl, Nat.le_of_ble_eq_true rfl⟩) (jg_preW (ci := 0) (q0 := 0) hK hP rfl rfl rfl hPc hKc hDc) rfl rfl hl.1 rfl (lv_room (Nat.le_of_ble_eq_true rfl)) dX0_distance_13 ⟨Nat.le_of_ble_eq_true rfl, Nat.le_of_ble_eq_true rfl⟩) hS (fun q _ h => hFc q h) hFc (fun r2 u t H1 locs ht hvm hw hB hz1 hk1 hS => ?_)
    obtain ⟨k2, s2⟩ := u
    obtain ⟨hP1, hK1, hD1⟩ := hB
    rw [ht] at hP1
    obtain ⟨hP, hD⟩ := va_join (wr := []) (w1 := [(h0, oX (nI x) h1 h2 h3 h4), (h2, aI d2 272 f), (h3, aI d3 1024 k2), (h4, aI d4 1024 s2)]) hP hD [0, 1, 2, 3] [] rfl rfl (by decide) (by decide) hk1 hFc hP1 hD1
    generalize H1 = H at hP hS ⊢
    have hP : va_P (dC, dI) vwCl [(h0, oX (nI x) h1 h2 h3 h4), (h2, aI d2 272 f), (h3, aI d3 1024 k2), (h4, aI d4 1024 s2)] H := hP
    have hD : va_D A [(h0, oX (nI x) h1 h2 h3 h4), (h2, aI d2 272 f), (h3, aI d3 1024 k2), (h4, aI d4 1024 s2)] := hD
    have hw : r2 = nI (jg_d x y) := hw
    refine lv_goto (tgt := 20) hx hb dX0_distance_16 (by decide) ?_
    exact W.iret (v := r2) hx hb hr (fun t9 ht9 hW9 => ⟨⟨r2, (k2, s2), rfl, hw.trans hq.symm, by rw [ht9]; exact hP.sub [0, 1, 2, 3] rfl, va_K.moved hW9.alike (hK.sub [0, 1, 2] rfl), hD.sub [0, 1, 2, 3] (by decide) rfl⟩, hS.F ht9⟩) hS.2.2 dX0_distance_20
set_option maxHeartbeats 4000000 in
set_option maxRecDepth 100000 in
/-- between(m, n) -/
theorem c_X0_between (l : Launch) (dC : Nat → ClassId) (dI : Nat → Nat → Nat) (h0 h1 h2 h3 h4 : Nat) (sz : Nat) (d1 d2 d3 d4 : ClassId) (cu : Int32) (mk f ks st : Nat → Int32) (hm : jg_mk mk) (hf : jg_im f) (a b : Int32) : Met l yX0_between (ws_ yX0_between cX0_between 3 (some .int)) ({ frames := 3, cells := 0, slots := 0, locals := 72 }) (jg_Pw (dC, dI) sz [(h0, oX cu h1 h2 h3 h4), (h1, aI d1 8 mk), (h2, aI d2 272 f), (h3, aI d3 1024 ks), (h4, aI d4 1024 st)] [(d1, .int), (d2, .int), (d3, .int), (d4, .short)] [.ref h0, .int a, .int b]) (va_Qi (fun (r : Int32) (_ : (Nat → Int32) × (Nat → Int32)) => r = jg_qBetw mk a b) (fun (u : (Nat → Int32) × (Nat → Int32)) t => jg_Bw (dC, dI) (va_A [(h0, oX cu h1 h2 h3 h4), (h1, aI d1 8 mk), (h2, aI d2 272 f), (h3, aI d3 1024 ks), (h4, aI d4 1024 st)] sz) [(h0, oX cu h1 h2 h3 h4), (h1, aI d1 8 mk), (h2, aI d2 272 f), (h3, aI d3 1024 u.1), (h4, aI d4 1024 u.2)] [(d1, .int), (d2, .int), (d3, .int), (d4, .short)] t) (va_A [(h0, oX cu h1 h2 h3 h4), (h1, aI d1 8 mk), (h2, aI d2 272 f), (h3, aI d3 1024 ks), (h4, aI d4 1024 st)] sz)) 0 0 (va_A [(h0, oX cu h1 h2 h3 h4), (h1, aI d1 8 mk), (h2, aI d2 272 f), (h3, aI d3 1024 ks), (h4, aI d4 1024 st)] sz) := by
  refine Met.ofW (cc := cX0_between) (maxL := 3) (ret := (some .int)) (by decide) rfl ?_
  intro p e s m args below meth c s₁ B hml hv
  obtain ⟨rfl, hsz, hP, hK, hD0⟩ := hv
  have hx := B.exec
  have hb := B.bytes
  have hr := B.returns
  have hts := atoms_spec (ws := ws_ yX0_between cX0_between 3 (some .int)) B.pre
  have hts : ∀ w ∈ lw_all, w.before _ s = true := fun w h => hts w (List.mem_cons_of_mem _ h)
  have hown : s.vm.findClass RX0 = some m.cls := findClass_of_methodNamed B.named
  have hin : meth.name = "between" := (name_of_methodNamed B.named B.method).1
  subst hsz
  have hD := hD0.self (sz := s.heap.size)
  generalize hAe : va_A [(h0, oX cu h1 h2 h3 h4), (h1, aI d1 8 mk), (h2, aI d2 272 f), (h3, aI d3 1024 ks), (h4, aI d4 1024 st)] s.heap.size = A at hD ⊢
  have hA : ∀ q : Nat, s.heap.size ≤ q → A q := fun q h => by rw [← hAe]; exact Or.inr h
  have hS : va_S A s.heap s.heap [] := va_S.rf
  have hP : va_P (dC, dI) vwCl [(h0, oX cu h1 h2 h3 h4), (h1, aI d1 8 mk), (h2, aI d2 272 f), (h3, aI d3 1024 ks), (h4, aI d4 1024 st)] s.heap := hP
  have hl := lv_entry ([.ref h0, .int a, .int b]) (n := 3) (Nat.le_of_ble_eq_true rfl)
  rw [lg_entry_eq]
  generalize (lg_sl ([.ref h0, .int a, .int b]) ++ List.replicate (3 - (lg_sl ([.ref h0, .int a, .int b])).length) Slot.unset).toArray = ls at hl ⊢
  have hl : lv_has ls 3 [(0, .ref h0), (1, .int a), (2, .int b)] := hl
  refine lv_iload_n hx hb dX0_between_0 rfl (lv_at hl 1 rfl) ?_
  refine vp_callSi (va_Run.run (va_runS (As := [.int a]) (rest := []) ⟨hx, hb, hml, hown, hts⟩ (c_X0_isMark l dC dI a) (va_cwS 1 hts (lw_S q82 q83 q13 q84) rfl rfl rfl (by decide +kernel) ⟨Nat.le_of_ble_eq_true rfl, Nat.le_of_ble_eq_true rfl⟩) jg_preN rfl rfl hl.1 rfl (lv_room (Nat.le_of_ble_eq_true rfl)) dX0_between_1 ⟨Nat.le_of_ble_eq_true rfl, Nat.le_of_ble_eq_true rfl⟩)) (fun r1 (e_r1 : r1 = jg_qMark a) => ?_)
  subst e_r1
  refine lv_if_eq (tgt := 32) hx hb dX0_between_4 (by decide) (fun c4 => ?_) (fun c4 => ?_)
  · refine lv_iconst (v := -1) hx hb dX0_between_32 (by decide +kernel) ?_
    exact W.iret (v := (-1)) hx hb hr (fun t9 ht9 hW9 => ⟨⟨(-1), (ks, st), rfl, (if_neg (fun q => jg_markF c4 q.1)).symm, by rw [ht9]; exact hP.sub [0, 1, 2, 3, 4] rfl, va_K.moved hW9.alike (hK.sub [0, 1, 2, 3] rfl), hD.sub [0, 1, 2, 3, 4] (by decide) rfl⟩, hS.F ht9⟩) hS.2.2 dX0_between_33
  · have ha := jg_markT c4
    refine lv_iload_n hx hb dX0_between_7 rfl (lv_at hl 2 rfl) ?_
    refine vp_callSi (va_Run.run (va_runS (As := [.int b]) (rest := []) ⟨hx, hb, hml, hown, hts⟩ (c_X0_isMark l dC dI b) (va_cwS 1 hts (lw_S q82 q83 q13 q84) rfl rfl rfl (by decide +kernel) ⟨Nat.le_of_ble_eq_true rfl, Nat.le_of_ble_eq_true rfl⟩) jg_preN rfl rfl hl.1 rfl (lv_room (Nat.le_of_ble_eq_true rfl)) dX0_between_8 ⟨Nat.le_of_ble_eq_true rfl, Nat.le_of_ble_eq_true rfl⟩)) (fun r2 (e_r2 : r2 = jg_qMark b) => ?_)
    subst e_r2
    refine lv_if_eq (tgt := 32) hx hb dX0_between_11 (by decide) (fun c11 => ?_) (fun c11 => ?_)
    · refine lv_iconst (v := -1) hx hb dX0_between_32 (by decide +kernel) ?_
      exact W.iret (v := (-1)) hx hb hr (fun t9 ht9 hW9 => ⟨⟨(-1), (ks, st), rfl, (if_neg (fun q => jg_markF c11 q.2.1)).symm, by rw [ht9]; exact hP.sub [0, 1, 2, 3, 4] rfl, va_K.moved hW9.alike (hK.sub [0, 1, 2, 3] rfl), hD.sub [0, 1, 2, 3, 4] (by decide) rfl⟩, hS.F ht9⟩) hS.2.2 dX0_between_33
    · have hb2 := jg_markT c11
      obtain ⟨M, hM, eM⟩ := jg_isM_of ha
      obtain ⟨N, hN, eN⟩ := jg_isM_of hb2
      obtain ⟨y, y1, ey⟩ := hm M hM
      obtain ⟨z, z1, ez⟩ := hm N hN
      have ca : a.toNatClampNeg = M := by rw [eM, nI_clamp (by omega)]
      have cb : b.toNatClampNeg = N := by rw [eN, nI_clamp (by omega)]
      subst eM
      subst eN
      refine lv_aload_n hx hb dX0_between_14 rfl (lv_at hl 0 rfl) ?_
      refine va_get (D := (dC, dI)) (ci := 0) (v := .ref h1) (C := RX0) (T := TX0) (N := 5) hx hb hts in_X0 hown hK hP 0 rfl rfl 1 (by decide) (hts _ q32) (fun _ h9 => h9) rfl dX0_between_15 ?_
      refine lv_iload_n hx hb dX0_between_18 rfl (lv_at hl 1 rfl) ?_
      refine jg_iald (j := M) hx hb hK hP 1 0 rfl rfl hM (by decide) dX0_between_19 ?_
      refine lv_if_eq (tgt := 32) hx hb dX0_between_20 (by decide) (fun c20 => ?_) (fun c20 => ?_)
      · refine lv_iconst (v := -1) hx hb dX0_between_32 (by decide +kernel) ?_
        exact W.iret (v := (-1)) hx hb hr (fun t9 ht9 hW9 => ⟨⟨(-1), (ks, st), rfl, (if_neg (fun q => q.2.2.1 (by rw [ca]; exact c20))).symm, by rw [ht9]; exact hP.sub [0, 1, 2, 3, 4] rfl, va_K.moved hW9.alike (hK.sub [0, 1, 2, 3] rfl), hD.sub [0, 1, 2, 3, 4] (by decide) rfl⟩, hS.F ht9⟩) hS.2.2 dX0_between_33
      · refine lv_aload_n hx hb dX0_between_23 rfl (lv_at hl 0 rfl) ?_
        refine va_get (D := (dC, dI)) (ci := 0) (v := .ref h1) (C := RX0) (T := TX0) (N := 5) hx hb hts in_X0 hown hK hP 0 rfl rfl 1 (by decide) (hts _ q32) (fun _ h9 => h9) rfl dX0_between_24 ?_
        refine lv_iload_n hx hb dX0_between_27 rfl (lv_at hl 2 rfl) ?_
        refine jg_iald (j := N) hx hb hK hP 1 0 rfl rfl hN (by decide) dX0_between_28 ?_
        refine lv_if_ne (tgt := 34) hx hb dX0_between_29 (by decide) (fun c29 => ?_) (fun c29 => ?_)
        · have hq : jg_qBetw mk (nI M) (nI N) = nI (jg_d (mk (nI M).toNatClampNeg).toNatClampNeg (mk (nI N).toNatClampNeg).toNatClampNeg) := if_pos ⟨ha, hb2, by rw [ca]; exact c20, by rw [cb]; exact c29⟩
          rw [ca, cb, ey, ez, nI_clamp (show y < 2 ^ 31 by omega), nI_clamp (show z < 2 ^ 31 by omega)] at hq
          have y0 : 0 < y := Nat.pos_of_ne_zero (fun q => c20 (by rw [ey, q, nI_0]))
          have z0 : 0 < z := Nat.pos_of_ne_zero (fun q => c29 (by rw [ez, q, nI_0]))
          refine lv_aload_n hx hb dX0_between_34 rfl (lv_at hl 0 rfl) ?_
          refine lv_aload_n hx hb dX0_between_35 rfl (lv_at hl 0 rfl) ?_
          refine va_get (D := (dC, dI)) (ci := 0) (v := .ref h1) (C := RX0) (T := TX0) (N := 5) hx hb hts in_X0 hown hK hP 0 rfl rfl 1 (by decide) (hts _ q32) (fun _ h9 => h9) rfl dX0_between_36 ?_
          refine lv_iload_n hx hb dX0_between_39 rfl (lv_at hl 1 rfl) ?_
          refine jg_iald (j := M) hx hb hK hP 1 0 rfl rfl hM (by decide) dX0_between_40 ?_
          refine jg_top (y := nI y) ey ?_
          refine lv_aload_n hx hb dX0_between_41 rfl (lv_at hl 0 rfl) ?_
          refine va_get (D := (dC, dI)) (ci := 0) (v := .ref h1) (C := RX0) (T := TX0) (N := 5) hx hb hts in_X0 hown hK hP 0 rfl rfl 1 (by decide) (hts _ q32) (fun _ h9 => h9) rfl dX0_between_42 ?_
          refine lv_iload_n hx hb dX0_between_45 rfl (lv_at hl 2 rfl) ?_
          refine jg_iald (j := N) hx hb hK hP 1 0 rfl rfl hN (by decide) dX0_between_46 ?_
          refine jg_top (y := nI z) ez ?_
          have hPc := hP.sub (ws' := [(h0, oX cu h1 h2 h3 h4), (h2, aI d2 272 f), (h3, aI d3 1024 ks), (h4, aI d4 1024 st)]) [0, 2, 3, 4] rfl
          have hDc := hD.sub (ws' := [(h0, oX cu h1 h2 h3 h4), (h2, aI d2 272 f), (h3, aI d3 1024 ks), (h4, aI d4 1024 st)]) [0, 2, 3, 4] (by decide) rfl
          have hKc := hK.sub (tys' := [(d2, .int), (d3, .int), (d4, .short)]) [1, 2, 3] rfl
          have hFc := va_free (wc := [(h0, oX cu h1 h2 h3 h4), (h2, aI d2 272 f), (h3, aI d3 1024 ks), (h4, aI d4 1024 st)]) hD hS hA [0, 2, 3, 4] rfl
          refine va_calli (va_runV (As := [.int (nI y), .int (nI z)]) (rest := []) ⟨hx, hb, hml, hown, hts⟩ (c_X0_steps l dC dI h0 h1 h2 h3 h4 s.heap.size d2 d3 d4 cu f ks st hf y z y0 y1 z0 z1) (cwV 2 hts (lw_V q93 q95 qs2 q13 q96) rfl rfl rfl (by decide +kernel) ⟨Nat.le_of_ble_eq_true rfl, Nat.le_of_ble_eq_true rfl⟩) (jg_preW (ci := 0) (q0 := 0) hK hP rfl rfl rfl hPc hKc hDc) rfl rfl hl.1 rfl (lv_room (Nat.le_of_ble_eq_true rfl)) dX0_between_47 ⟨Nat.le_of_ble_eq_true rfl, Nat.le_of_ble_eq_true rfl⟩) hS (fun q _ h => hFc q h) hFc (fun r3 u t H1 locs ht hvm hw hB hz1 hk1 hS => ?_)
          obtain ⟨k2, s2⟩ := u
          obtain ⟨hP1, hK1, hD1⟩ := hB
          rw [ht] at hP1
          obtain ⟨hP, hD⟩ := va_join (wr := [(h1, aI d1 8 mk)]) (w1 := [(h0, oX cu h1 h2 h3 h4), (h2, aI d2 272 f), (h3, aI d3 1024 k2), (h4, aI d4 1024 s2)]) hP hD [0, 2, 3, 4] [1] rfl rfl (by decide) (by decide) hk1 hFc hP1 hD1
          generalize H1 = H at hP hS ⊢
          have hP : va_P (dC, dI) vwCl [(h1, aI d1 8 mk), (h0, oX cu h1 h2 h3 h4), (h2, aI d2 272 f), (h3, aI d3 1024 k2), (h4, aI d4 1024 s2)] H := hP
          have hD : va_D A [(h1, aI d1 8 mk), (h0, oX cu h1 h2 h3 h4), (h2, aI d2 272 f), (h3, aI d3 1024 k2), (h4, aI d4 1024 s2)] := hD
          have hw : r3 = nI (jg_d y z) := hw
          exact W.iret (v := r3) hx hb hr (fun t9 ht9 hW9 => ⟨⟨r3, (k2, s2), rfl, hw.trans hq.symm, by rw [ht9]; exact hP.sub [1, 0, 2, 3, 4] rfl, va_K.moved hW9.alike (hK.sub [0, 1, 2, 3] rfl), hD.sub [1, 0, 2, 3, 4] (by decide) rfl⟩, hS.F ht9⟩) hS.2.2 dX0_between_50
        · refine lv_iconst (v := -1) hx hb dX0_between_32 (by decide +kernel) ?_
          exact W.iret (v := (-1)) hx hb hr (fun t9 ht9 hW9 => ⟨⟨(-1), (ks, st), rfl, (if_neg (fun q => q.2.2.2 (by rw [cb]; exact c29))).symm, by rw [ht9]; exact hP.sub [0, 1, 2, 3, 4] rfl, va_K.moved hW9.alike (hK.sub [0, 1, 2, 3] rfl), hD.sub [0, 1, 2, 3, 4] (by decide) rfl⟩, hS.F ht9⟩) hS.2.2 dX0_between_33
set_option maxHeartbeats 4000000 in
set_option maxRecDepth 100000 in
/-- JumpGenerator(): the table of images is filled -/
theorem c_X0_init (l : Launch) (dC : Nat → ClassId) (dI : Nat → Nat → Nat) (h0 sz : Nat) : Met l yX0_init (ws_ yX0_init cX0_init 4 none) ({ frames := 1, cells := 4, slots := 2328, locals := 24 }) (jg_Pw (dC, dI) sz [(h0, .inr (0, [.int 0, .null, .null, .null, .null]))] [] [.ref h0]) (va_Qv (fun _ : Unit => True) (fun _ t => ∃ (q1 q2 q3 q4 : Nat) (d1 d2 d3 d4 : ClassId) (f : Nat → Int32), jg_im f ∧ jg_Bw (dC, dI) (va_A [(h0, .inr (0, [.int 0, .null, .null, .null, .null]))] sz) [(h0, oX (nI 1) q1 q2 q3 q4), (q1, aI d1 8 (fun _ => 0)), (q2, aI d2 272 f), (q3, aI d3 1024 (fun _ => 0)), (q4, aI d4 1024 (fun _ => 0))] [(d1, .int), (d2, .int), (d3, .int), (d4, .short)] t) (va_A [(h0, .inr (0, [.int 0, .null, .null, .null, .null]))] sz)) 4 2328 (va_A [(h0, .inr (0, [.int 0, .null, .null, .null, .null]))] sz) := by
  refine Met.ofW (cc := cX0_init) (maxL := 4) (ret := none) (by decide) rfl ?_
  intro p e s m args below meth c s₁ B hml hv
  obtain ⟨rfl, hsz, hP, hK, hD0⟩ := hv
  have hx := B.exec
  have hb := B.bytes
  have hr := B.returns
  have hts := atoms_spec (ws := ws_ yX0_init cX0_init 4 none) B.pre
  have hts : ∀ w ∈ lw_all, w.before _ s = true := fun w h => hts w (List.mem_cons_of_mem _ h)
  have hown : s.vm.findClass RX0 = some m.cls := findClass_of_methodNamed B.named
  have hin : meth.name = "<init>" := (name_of_methodNamed B.named B.method).1
  subst hsz
  have hD := hD0.self (sz := s.heap.size)
  generalize hAe : va_A [(h0, .inr (0, [.int 0, .null, .null, .null, .null]))] s.heap.size = A at hD ⊢
  have hA : ∀ q : Nat, s.heap.size ≤ q → A q := fun q h => by rw [← hAe]; exact Or.inr h
  have hS : va_S A s.heap s.heap [] := va_S.rf
  have hP : va_P (dC, dI) vwCl [(h0, .inr (0, [.int 0, .null, .null, .null, .null]))] s.heap := hP
  have hl := lv_entry ([.ref h0]) (n := 4) (Nat.le_of_ble_eq_true rfl)
  rw [lg_entry_eq]
  generalize (lg_sl ([.ref h0]) ++ List.replicate (4 - (lg_sl ([.ref h0])).length) Slot.unset).toArray = ls at hl ⊢
  have hl : lv_has ls 4 [(0, .ref h0)] := hl
  refine lv_aload_n hx hb dX0_init_0 rfl (lv_at hl 0 rfl) ?_
  refine W.objInit hx hb hown (hts _ q20) (hts _ q21) (hts _ q22) rfl (by rw [hml]; exact hl.1) rfl dX0_init_1 (Nat.le_of_ble_eq_true rfl) (Nat.le_of_ble_eq_true rfl) ?_
  refine W.eq (g2 := F0 m 4 ls []) rfl ?_
  refine lv_aload_n hx hb dX0_init_4 rfl (lv_at hl 0 rfl) ?_
  refine lv_iconst (v := nI 1) hx hb dX0_init_5 (by decide +kernel) ?_
  refine va_put (D := (dC, dI)) (ci := 0) (v := .int (nI 1)) (ty := .int) (C := RX0) (T := TX0) (N := 5) hx hb hts in_X0 tyX0 tyX0_ok nmX0 hown hK hP hD hS 0 rfl rfl 0 (by decide) (hts _ q31) (fun _ h9 => h9) rfl (by decide +kernel) rfl rfl (Nat.le_of_ble_eq_true rfl) dX0_init_6 (fun H locs hP hD hS => ?_)
  have hP : va_P (dC, dI) vwCl [(h0, .inr (0, [.int (nI 1), .null, .null, .null, .null]))] H := hP
  have hD : va_D A [(h0, .inr (0, [.int (nI 1), .null, .null, .null, .null]))] := hD
  refine lv_aload_n hx hb dX0_init_9 rfl (lv_at hl 0 rfl) ?_
  refine lv_bipush (v := nI 8) hx hb dX0_init_10 (by decide +kernel) ?_
  refine va_newa (atype := .int) (ty := .int) (N' := 8) (a0 := (8, .inl (fun _ => 0))) hx hb (hts _ q47) rfl hK hP hD hS hA (fun _ => rfl) (by decide +kernel) (by decide +kernel) (by decide) (Nat.le_of_ble_eq_true rfl) (Nat.le_of_ble_eq_true rfl) dX0_init_12 (fun q1 d1 H hK hP hD hS => ?_)
  have hP : va_P (dC, dI) vwCl [(h0, .inr (0, [.int (nI 1), .null, .null, .null, .null])), (q1, aI d1 8 (fun _ => 0))] H := hP
  have hD : va_D A [(h0, .inr (0, [.int (nI 1), .null, .null, .null, .null])), (q1, aI d1 8 (fun _ => 0))] := hD
  have hK : va_K (dC, dI) vwCl [(d1, .int)] s := hK
  refine va_putF (D := (dC, dI)) (ci := 0) (v := .ref q1) (ty := .array .int) (C := RX0) (T := TX0) (N := 5) hx hb hts in_X0 tyX0 tyX0_ok nmX0 hown hK hP hD hS 0 rfl rfl 1 (by decide) (hts _ q32) (fun _ h9 => h9) rfl hin rfl (by decide +kernel) rfl rfl (Nat.le_of_ble_eq_true rfl) dX0_init_14 (fun H locs hP hD hS => ?_)
  have hP : va_P (dC, dI) vwCl [(h0, .inr (0, [.int (nI 1), .ref q1, .null, .null, .null])), (q1, aI d1 8 (fun _ => 0))] H := hP
  have hD : va_D A [(h0, .inr (0, [.int (nI 1), .ref q1, .null, .null, .null])), (q1, aI d1 8 (fun _ => 0))] := hD
  refine lv_aload_n hx hb dX0_init_17 rfl (lv_at hl 0 rfl) ?_
  refine lv_sipush (v := nI 272) hx hb dX0_init_18 (by decide +kernel) ?_
  refine va_newa (atype := .int) (ty := .int) (N' := 272) (a0 := (272, .inl (fun _ => 0))) hx hb (hts _ q47) rfl hK hP hD hS hA (fun _ => rfl) (by decide +kernel) (by decide +kernel) (by decide) (Nat.le_of_ble_eq_true rfl) (Nat.le_of_ble_eq_true rfl) dX0_init_21 (fun q2 d2 H hK hP hD hS => ?_)
  have hP : va_P (dC, dI) vwCl [(h0, .inr (0, [.int (nI 1), .ref q1, .null, .null, .null])), (q1, aI d1 8 (fun _ => 0)), (q2, aI d2 272 (fun _ => 0))] H := hP
  have hD : va_D A [(h0, .inr (0, [.int (nI 1), .ref q1, .null, .null, .null])), (q1, aI d1 8 (fun _ => 0)), (q2, aI d2 272 (fun _ => 0))] := hD
  have hK : va_K (dC, dI) vwCl [(d1, .int), (d2, .int)] s := hK
  refine va_putF (D := (dC, dI)) (ci := 0) (v := .ref q2) (ty := .array .int) (C := RX0) (T := TX0) (N := 5) hx hb hts in_X0 tyX0 tyX0_ok nmX0 hown hK hP hD hS 0 rfl rfl 2 (by decide) (hts _ q33) (fun _ h9 => h9) rfl hin rfl (by decide +kernel) rfl rfl (Nat.le_of_ble_eq_true rfl) dX0_init_23 (fun H locs hP hD hS => ?_)
  have hP : va_P (dC, dI) vwCl [(h0, .inr (0, [.int (nI 1), .ref q1, .ref q2, .null, .null])), (q1, aI d1 8 (fun _ => 0)), (q2, aI d2 272 (fun _ => 0))] H := hP
  have hD : va_D A [(h0, .inr (0, [.int (nI 1), .ref q1, .ref q2, .null, .null])), (q1, aI d1 8 (fun _ => 0)), (q2, aI d2 272 (fun _ => 0))] := hD
  refine lv_aload_n hx hb dX0_init_26 rfl (lv_at hl 0 rfl) ?_
  refine lv_sipush (v := nI 1024) hx hb dX0_init_27 (by decide +kernel) ?_
  refine va_newa (atype := .int) (ty := .int) (N' := 1024) (a0 := (1024, .inl (fun _ => 0))) hx hb (hts _ q47) rfl hK hP hD hS hA (fun _ => rfl) (by decide +kernel) (by decide +kernel) (by decide) (Nat.le_of_ble_eq_true rfl) (Nat.le_of_ble_eq_true rfl) dX0_init_30 (fun q3 d3 H hK hP hD hS => ?_)
  have hP : va_P (dC, dI) vwCl [(h0, .inr (0, [.int (nI 1), .ref q1, .ref q2, .null, .null])), (q1, aI d1 8 (fun _ => 0)), (q2, aI d2 272 (fun _ => 0)), (q3, aI d3 1024 (fun _ => 0))] H := hP
  have hD : va_D A [(h0, .inr (0, [.int (nI 1), .ref q1, .ref q2, .null, .null])), (q1, aI d1 8 (fun _ => 0)), (q2, aI d2 272 (fun _ => 0)), (q3, aI d3 1024 (fun _ => 0))] := hD
  have hK : va_K (dC, dI) vwCl [(d1, .int), (d2, .int), (d3, .int)] s := hK
  refine va_putF (D := (dC, dI)) (ci := 0) (v := .ref q3) (ty := .array .int) (C := RX0) (T := TX0) (N := 5) hx hb hts in_X0 tyX0 tyX0_ok nmX0 hown hK hP hD hS 0 rfl rfl 3 (by decide) (hts _ q34) (fun _ h9 => h9) rfl hin rfl (by decide +kernel) rfl rfl (Nat.le_of_ble_eq_true rfl) dX0_init_32 (fun H locs hP hD hS => ?_)
  have hP : va_P (dC, dI) vwCl [(h0, .inr (0, [.int (nI 1), .ref q1, .ref q2, .ref q3, .null])), (q1, aI d1 8 (fun _ => 0)), (q2, aI d2 272 (fun _ => 0)), (q3, aI d3 1024 (fun _ => 0))] H := hP
  have hD : va_D A [(h0, .inr (0, [.int (nI 1), .ref q1, .ref q2, .ref q3, .null])), (q1, aI d1 8 (fun _ => 0)), (q2, aI d2 272 (fun _ => 0)), (q3, aI d3 1024 (fun _ => 0))] := hD
  refine lv_aload_n hx hb dX0_init_35 rfl (lv_at hl 0 rfl) ?_
  refine lv_sipush (v := nI 1024) hx hb dX0_init_36 (by decide +kernel) ?_
  refine va_newa (atype := .short) (ty := .short) (N' := 1024) (a0 := (1024, .inl (fun _ => 0))) hx hb (hts _ q48) rfl hK hP hD hS hA (fun _ => rfl) (by decide +kernel) (by decide +kernel) (by decide) (Nat.le_of_ble_eq_true rfl) (Nat.le_of_ble_eq_true rfl) dX0_init_39 (fun q4 d4 H hK hP hD hS => ?_)
  have hP : va_P (dC, dI) vwCl [(h0, .inr (0, [.int (nI 1), .ref q1, .ref q2, .ref q3, .null])), (q1, aI d1 8 (fun _ => 0)), (q2, aI d2 272 (fun _ => 0)), (q3, aI d3 1024 (fun _ => 0)), (q4, aI d4 1024 (fun _ => 0))] H := hP
  have hD : va_D A [(h0, .inr (0, [.int (nI 1), .ref q1, .ref q2, .ref q3, .null])), (q1, aI d1 8 (fun _ => 0)), (q2, aI d2 272 (fun _ => 0)), (q3, aI d3 1024 (fun _ => 0)), (q4, aI d4 1024 (fun _ => 0))] := hD
  have hK : va_K (dC, dI) vwCl [(d1, .int), (d2, .int), (d3, .int), (d4, .short)] s := hK
  refine va_putF (D := (dC, dI)) (ci := 0) (v := .ref q4) (ty := .array .short) (C := RX0) (T := TX0) (N := 5) hx hb hts in_X0 tyX0 tyX0_ok nmX0 hown hK hP hD hS 0 rfl rfl 4 (by decide) (hts _ q35) (fun _ h9 => h9) rfl hin rfl (by decide +kernel) rfl rfl (Nat.le_of_ble_eq_true rfl) dX0_init_41 (fun H locs hP hD hS => ?_)
  have hP : va_P (dC, dI) vwCl [(h0, oX (nI 1) q1 q2 q3 q4), (q1, aI d1 8 (fun _ => 0)), (q2, aI d2 272 (fun _ => 0)), (q3, aI d3 1024 (fun _ => 0)), (q4, aI d4 1024 (fun _ => 0))] H := hP
  have hD : va_D A [(h0, oX (nI 1) q1 q2 q3 q4), (q1, aI d1 8 (fun _ => 0)), (q2, aI d2 272 (fun _ => 0)), (q3, aI d3 1024 (fun _ => 0)), (q4, aI d4 1024 (fun _ => 0))] := hD
  refine lv_iconst (v := nI 0) hx hb dX0_init_44 (by decide +kernel) ?_
  refine lv_istore_n (lv' := [(1, .int (nI 0)), (0, .ref h0)]) hx hb dX0_init_45 rfl hl (by decide) rfl (fun ls hl => ?_)
  refine W.widen (k := 4) (n := 2328) (by omega) (by omega) ?_
  refine jg_loopH (fun i H locs ls => i ≤ 16 ∧ ∃ f : Nat → Int32, (∀ j, j < i → f j = nI (jg_T (2 ^ j))) ∧ va_P (dC, dI) vwCl [(h0, oX (nI 1) q1 q2 q3 q4), (q1, aI d1 8 (fun _ => 0)), (q2, aI d2 272 f), (q3, aI d3 1024 (fun _ => 0)), (q4, aI d4 1024 (fun _ => 0))] H ∧ va_D A [(h0, oX (nI 1) q1 q2 q3 q4), (q1, aI d1 8 (fun _ => 0)), (q2, aI d2 272 f), (q3, aI d3 1024 (fun _ => 0)), (q4, aI d4 1024 (fun _ => 0))] ∧ va_S A s.heap H locs ∧ lv_has ls 4 [(0, .ref h0), (1, .int (nI i))]) (fun i => 16 - i) ?_ 0 ls ⟨by omega, _, fun j hj => absurd hj (Nat.not_lt_zero _), hP, hD, hS, lv_sub hl [1, 0] rfl⟩
  intro i H locs ls hI ih
  obtain ⟨hi, f, hz, hP, hD, hS, hl⟩ := hI
  refine lv_iload_n hx hb dX0_init_46 rfl (lv_at hl 1 rfl) ?_
  refine lv_bipush (v := nI 16) hx hb dX0_init_47 (by decide +kernel) ?_
  refine lv_icmp_ge (tgt := 70) hx hb dX0_init_49 (by decide) (fun c49 => ?_) (fun c49 => ?_)
  · have q9 := (nI_leI (by omega) (by omega)).mp c49
    refine lv_iconst (v := nI 1) hx hb dX0_init_70 (by decide +kernel) ?_
    refine lv_istore_n (lv' := [(1, .int (nI 1)), (0, .ref h0)]) hx hb dX0_init_71 rfl hl (by decide) rfl (fun ls hl => ?_)
    refine jg_loopH (fun k H locs ls => (1 ≤ k ∧ k ≤ 17) ∧ ∃ f : Nat → Int32, (∀ k1, k1 < k → ∀ i, i < 16 → f (k1 * 16 + i) = nI (jg_i (2 ^ k1) (2 ^ i))) ∧ va_P (dC, dI) vwCl [(h0, oX (nI 1) q1 q2 q3 q4), (q1, aI d1 8 (fun _ => 0)), (q2, aI d2 272 f), (q3, aI d3 1024 (fun _ => 0)), (q4, aI d4 1024 (fun _ => 0))] H ∧ va_D A [(h0, oX (nI 1) q1 q2 q3 q4), (q1, aI d1 8 (fun _ => 0)), (q2, aI d2 272 f), (q3, aI d3 1024 (fun _ => 0)), (q4, aI d4 1024 (fun _ => 0))] ∧ va_S A s.heap H locs ∧ lv_has ls 4 [(0, .ref h0), (1, .int (nI k))]) (fun k => 17 - k) ?_ 1 ls ⟨by omega, f, fun k1 hk1 i9 hi9 => (by obtain rfl : k1 = 0 := (by omega); rw [Nat.zero_mul, Nat.zero_add, hz i9 (by omega)]; rfl), hP, hD, hS, lv_sub hl [1, 0] rfl⟩
    intro k H locs ls hI ih2
    obtain ⟨hk, f, hrow, hP, hD, hS, hl⟩ := hI
    refine lv_iload_n hx hb dX0_init_72 rfl (lv_at hl 1 rfl) ?_
    refine lv_bipush (v := nI 16) hx hb dX0_init_73 (by decide +kernel) ?_
    refine lv_icmp_gt (tgt := 131) hx hb dX0_init_75 (by decide) (fun c75 => ?_) (fun c75 => ?_)
    · obtain rfl : k = 17 := by have q := (nI_ltI (by omega) (by omega)).mp c75; omega
      exact W.vret hx hb hr (fun t9 ht9 hW9 => ⟨⟨(), rfl, trivial, q1, q2, q3, q4, d1, d2, d3, d4, f, hrow, by rw [ht9]; exact hP.sub [0, 1, 2, 3, 4] rfl, va_K.moved hW9.alike (hK.sub [0, 1, 2, 3] rfl), hD.sub [0, 1, 2, 3, 4] (by decide) rfl⟩, hS.F ht9⟩) hS.2.2 dX0_init_131
    · have hk9 : k ≤ 16 := by rcases Nat.lt_or_ge 16 k with q | q; exact absurd (nI_lt q (by omega)) c75; exact q
      refine lv_iconst (v := nI 0) hx hb dX0_init_78 (by decide +kernel) ?_
      refine lv_istore_n (lv' := [(2, .int (nI 0)), (0, .ref h0), (1, .int (nI k))]) hx hb dX0_init_79 rfl hl (by decide) rfl (fun ls hl => ?_)
      refine jg_loopH (fun i H locs ls => i ≤ 16 ∧ ∃ f : Nat → Int32, (∀ k1, k1 < k → ∀ i, i < 16 → f (k1 * 16 + i) = nI (jg_i (2 ^ k1) (2 ^ i))) ∧ (∀ j, j < i → f (k * 16 + j) = nI (jg_i (2 ^ k) (2 ^ j))) ∧ va_P (dC, dI) vwCl [(h0, oX (nI 1) q1 q2 q3 q4), (q1, aI d1 8 (fun _ => 0)), (q2, aI d2 272 f), (q3, aI d3 1024 (fun _ => 0)), (q4, aI d4 1024 (fun _ => 0))] H ∧ va_D A [(h0, oX (nI 1) q1 q2 q3 q4), (q1, aI d1 8 (fun _ => 0)), (q2, aI d2 272 f), (q3, aI d3 1024 (fun _ => 0)), (q4, aI d4 1024 (fun _ => 0))] ∧ va_S A s.heap H locs ∧ lv_has ls 4 [(0, .ref h0), (1, .int (nI k)), (2, .int (nI i))]) (fun i => 16 - i) ?_ 0 ls ⟨by omega, f, hrow, fun j hj => absurd hj (Nat.not_lt_zero _), hP, hD, hS, lv_sub hl [1, 2, 0] rfl⟩
      intro i H locs ls hI ih3
      obtain ⟨hi, f, hrow, hnew, hP, hD, hS, hl⟩ := hI
      refine lv_iload_n hx hb dX0_init_80 rfl (lv_at hl 2 rfl) ?_
      refine lv_bipush (v := nI 16) hx hb dX0_init_81 (by decide +kernel) ?_
      refine lv_icmp_ge (tgt := 125) hx hb dX0_init_83 (by decide) (fun c83 => ?_) (fun c83 => ?_)
      · obtain rfl : i = 16 := by have q := (nI_leI (by omega) (by omega)).mp c83; omega
        refine lv_iinc (v := nI (k + 1)) (lv' := [(1, .int (nI (k + 1))), (0, .ref h0), (2, .int (nI 16))]) hx hb dX0_init_125 hl (k := 1) rfl (nI_1 k) (by decide) rfl (fun ls hl => ?_)
        refine lv_goto (tgt := 72) hx hb dX0_init_128 (by decide) ?_
        exact ih2 (k + 1) H locs ls (by omega) ⟨by omega, f, fun k1 hk1 i9 hi9 => by rcases Nat.lt_or_ge k1 k with q | q; exact hrow k1 q i9 hi9; obtain rfl : k1 = k := (by omega); exact hnew i9 hi9, hP, hD, hS, lv_sub hl [1, 0] rfl⟩
      · have hi9 : i < 16 := Nat.lt_of_not_le (fun q => c83 ((nI_leI (by omega) (by omega)).mpr q))
        have hb9 : jg_i (2 ^ (k - 1)) (2 ^ i) < 65536 := jg_i_lt (jg_b16 i hi9)
        refine lv_aload_n hx hb dX0_init_86 rfl (lv_at hl 0 rfl) ?_
        refine va_get (D := (dC, dI)) (ci := 0) (v := .ref q2) (C := RX0) (T := TX0) (N := 5) hx hb hts in_X0 hown hK hP 0 rfl rfl 2 (by decide) (hts _ q33) (fun _ h9 => h9) rfl dX0_init_87 ?_
        refine lv_iload_n hx hb dX0_init_90 rfl (lv_at hl 1 rfl) ?_
        refine lv_iconst (v := nI 1) hx hb dX0_init_91 (by decide +kernel) ?_
        refine lv_isub hx hb dX0_init_92 ?_
        refine jg_top (y := nI (k - 1)) (pk_sub hk.1) ?_
        refine lv_bipush (v := nI 16) hx hb dX0_init_93 (by decide +kernel) ?_
        refine lv_imul hx hb dX0_init_95 ?_
        refine lv_iload_n hx hb dX0_init_96 rfl (lv_at hl 2 rfl) ?_
        refine lv_iadd hx hb dX0_init_97 ?_
        refine jg_top (y := nI ((k - 1) * 16 + i)) (by rw [pk_mul, nI_add]) ?_
        refine jg_iald (j := (k - 1) * 16 + i) hx hb hK hP 2 1 rfl rfl (by omega) (by decide) dX0_init_98 ?_
        refine jg_top (y := nI (jg_i (2 ^ (k - 1)) (2 ^ i))) (hrow (k - 1) (by omega) i hi9) ?_
        refine lv_istore_n (lv' := [(3, .int (nI (jg_i (2 ^ (k - 1)) (2 ^ i)))), (0, .ref h0), (1, .int (nI k)), (2, .int (nI i))]) hx hb dX0_init_99 rfl hl (by decide) rfl (fun ls hl => ?_)
        refine lv_aload_n hx hb dX0_init_100 rfl (lv_at hl 1 rfl) ?_
        refine va_get (D := (dC, dI)) (ci := 0) (v := .ref q2) (C := RX0) (T := TX0) (N := 5) hx hb hts in_X0 hown hK hP 0 rfl rfl 2 (by decide) (hts _ q33) (fun _ h9 => h9) rfl dX0_init_101 ?_
        refine lv_iload_n hx hb dX0_init_104 rfl (lv_at hl 2 rfl) ?_
        refine lv_bipush (v := nI 16) hx hb dX0_init_105 (by decide +kernel) ?_
        refine lv_imul hx hb dX0_init_107 ?_
        refine lv_iload_n hx hb dX0_init_108 rfl (lv_at hl 3 rfl) ?_
        refine lv_iadd hx hb dX0_init_109 ?_
        refine jg_top (y := nI (k * 16 + i)) (by rw [pk_mul, nI_add]) ?_
        refine lv_aload_n hx hb dX0_init_110 rfl (lv_at hl 1 rfl) ?_
        refine lv_iload_n hx hb dX0_init_111 rfl (lv_at hl 2 rfl) ?_
        refine lv_iconst (v := nI 1) hx hb dX0_init_112 (by decide +kernel) ?_
        refine lv_isub hx hb dX0_init_113 ?_
        refine jg_top (y := nI (k - 1)) (pk_sub hk.1) ?_
        refine lv_iload_n hx hb dX0_init_114 rfl (lv_at hl 0 rfl) ?_
        refine vp_callSi (va_Run.run (va_runV (As := [.int (nI (k - 1)), .int (nI (jg_i (2 ^ (k - 1)) (2 ^ i)))]) (rest := [.int (nI (k * 16 + i)), .ref q2]) ⟨hx, hb, hml, hown, hts⟩ (c_X0_apply l dC dI h0 q1 q2 q3 q4 d2 (nI 1) f (fun j => jg_i (2 ^ (k - 1)) (2 ^ j)) (k - 1) (jg_i (2 ^ (k - 1)) (2 ^ i)) (by omega) hb9 (fun j hj => hrow (k - 1) (by omega) j hj)) (cwV 2 hts (lw_V q27 q29 qs0 q13 q30) rfl rfl rfl (by decide +kernel) ⟨Nat.le_of_ble_eq_true rfl, Nat.le_of_ble_eq_true rfl⟩) (jg_preR (ci := 0) (q0 := 0) hK hP rfl rfl rfl (hP.sub [0, 2] rfl) (hK.sub [1] rfl)) rfl rfl hl.1 rfl (lv_room (Nat.le_of_ble_eq_true rfl)) dX0_init_115 ⟨Nat.le_of_ble_eq_true rfl, Nat.le_of_ble_eq_true rfl⟩)) (fun r1 (e_r1 : r1 = nI (jg_ap (fun j => jg_i (2 ^ (k - 1)) (2 ^ j)) (jg_i (2 ^ (k - 1)) (2 ^ i)) 16)) => ?_)
        subst e_r1
        refine jg_top (y := nI (jg_i (2 ^ k) (2 ^ i))) (by rw [jg_ap_eq _ (2 ^ (k - 1)) (fun _ _ => rfl) hb9, ← jg_two, show k - 1 + 1 = k by omega]) ?_
        refine jg_iast (j := k * 16 + i) hx hb hK hP hD hS 2 1 rfl rfl (by omega) (by decide) dX0_init_118 (fun H locs hP hD hS => ?_)
        have hP : va_P (dC, dI) vwCl [(h0, oX (nI 1) q1 q2 q3 q4), (q1, aI d1 8 (fun _ => 0)), (q2, aI d2 272 (upd f (k * 16 + i) (nI (jg_i (2 ^ k) (2 ^ i))))), (q3, aI d3 1024 (fun _ => 0)), (q4, aI d4 1024 (fun _ => 0))] H := hP
        have hD : va_D A [(h0, oX (nI 1) q1 q2 q3 q4), (q1, aI d1 8 (fun _ => 0)), (q2, aI d2 272 (upd f (k * 16 + i) (nI (jg_i (2 ^ k) (2 ^ i))))), (q3, aI d3 1024 (fun _ => 0)), (q4, aI d4 1024 (fun _ => 0))] := hD
        refine lv_iinc (v := nI (i + 1)) (lv' := [(2, .int (nI (i + 1))), (3, .int (nI (jg_i (2 ^ (k - 1)) (2 ^ i)))), (0, .ref h0), (1, .int (nI k))]) hx hb dX0_init_119 hl (k := 3) rfl (nI_1 i) (by decide) rfl (fun ls hl => ?_)
        refine lv_goto (tgt := 80) hx hb dX0_init_122 (by decide) ?_
        exact ih3 (i + 1) H locs ls (by omega) ⟨by omega, _, fun k1 hk1 i8 hi8 => by rw [pk_un (by omega)]; exact hrow k1 hk1 i8 hi8, fun j hj => by by_cases e9 : j = i; rw [e9, pk_us]; rw [pk_un (by omega)]; exact hnew j (by omega), hP, hD, hS, lv_sub hl [2, 3, 0] rfl⟩
  · have hi9 : i < 16 := Nat.lt_of_not_le (fun q => c49 ((nI_leI (by omega) (by omega)).mpr q))
    refine lv_aload_n hx hb dX0_init_52 rfl (lv_at hl 0 rfl) ?_
    refine va_get (D := (dC, dI)) (ci := 0) (v := .ref q2) (C := RX0) (T := TX0) (N := 5) hx hb hts in_X0 hown hK hP 0 rfl rfl 2 (by decide) (hts _ q33) (fun _ h9 => h9) rfl dX0_init_53 ?_
    refine lv_iload_n hx hb dX0_init_56 rfl (lv_at hl 1 rfl) ?_
    refine lv_iconst (v := nI 1) hx hb dX0_init_57 (by decide +kernel) ?_
    refine lv_iload_n hx hb dX0_init_58 rfl (lv_at hl 1 rfl) ?_
    refine lv_ishl hx hb dX0_init_59 ?_
    refine jg_top (y := nI (2 ^ i)) (jg_pw i (by omega)) ?_
    refine vp_callSi (va_Run.run (va_runS (As := [.int (nI (2 ^ i))]) (rest := [.int (nI i), .ref q2]) ⟨hx, hb, hml, hown, hts⟩ (c_X0_step l dC dI (2 ^ i) (jg_b16 i hi9)) (va_cwS 1 hts (lw_S q23 q24 q13 q25) rfl rfl rfl (by decide +kernel) ⟨Nat.le_of_ble_eq_true rfl, Nat.le_of_ble_eq_true rfl⟩) jg_preN rfl rfl hl.1 rfl (lv_room (Nat.le_of_ble_eq_true rfl)) dX0_init_60 ⟨Nat.le_of_ble_eq_true rfl, Nat.le_of_ble_eq_true rfl⟩)) (fun r1 (e_r1 : r1 = nI (jg_T (2 ^ i))) => ?_)
    subst e_r1
    refine jg_iast (j := i) hx hb hK hP hD hS 2 1 rfl rfl (by omega) (by decide) dX0_init_63 (fun H locs hP hD hS => ?_)
    have hP : va_P (dC, dI) vwCl [(h0, oX (nI 1) q1 q2 q3 q4), (q1, aI d1 8 (fun _ => 0)), (q2, aI d2 272 (upd f i (nI (jg_T (2 ^ i))))), (q3, aI d3 1024 (fun _ => 0)), (q4, aI d4 1024 (fun _ => 0))] H := hP
    have hD : va_D A [(h0, oX (nI 1) q1 q2 q3 q4), (q1, aI d1 8 (fun _ => 0)), (q2, aI d2 272 (upd f i (nI (jg_T (2 ^ i))))), (q3, aI d3 1024 (fun _ => 0)), (q4, aI d4 1024 (fun _ => 0))] := hD
    refine lv_iinc (v := nI (i + 1)) (lv' := [(1, .int (nI (i + 1))), (0, .ref h0)]) hx hb dX0_init_64 hl (k := 1) rfl (nI_1 i) (by decide) rfl (fun ls hl => ?_)
    refine lv_goto (tgt := 46) hx hb dX0_init_67 (by decide) ?_
    exact ih (i + 1) H locs ls (by omega) ⟨by omega, _, fun j hj => by by_cases e9 : j = i; rw [e9, pk_us]; rw [pk_un e9]; exact hz j (by omega), hP, hD, hS, lv_sub hl [1, 0] rfl⟩
end
section
/-! THE CLAIM OUT OF ONE WALK OF THE LAW'S BODY. Your part is whole_start (and what it stands on); all else here is the same for every law, but numbers. -/
def R_law : String := "JumpGeneratorLaw"
def lw_P (b : Addr) (xs : List Int32) (args : Array Value) (s : State) : Prop := args = #[.ref b] ∧ s.IntsAt b xs ∧ xs.length ≤ 256 ∧ (Jvm.Cond.and given_1 narrow_1).before args s = true
def lw_Q (_ : Array Value) (s : State) (o : Outcome) (t : State) : Prop := o = .returned (some (.int 1)) ∧ Framed s o t [] 600000 7290000
def lw_Z (below : List Frame) (a : Array Value) (s : State) : State → Prop := fun t => ∃ o, t.status = .running ∧ Ended t below o ∧ lw_Q a s o t
/-- the law's own end, with 1 on the stack, nothing written that was there before, its room as the claim has it -/
theorem lw_ret {p : Program} {l : Launch} {e : Env} {s : State} {m : MethodId} {below : List Frame} {meth : Method} {c : Code} {b : Nat} (hx : p.tables.exec = Jvm.exec) (hb : c.code = code) (hr : meth.sig.returnType = ret) (hlocks : meth.locks = false) {pc : Nat} {H : Heap} {ls : Array Slot} (hdg : decode code pc = .ok (.ireturn, 1)) : W p l e room_1 s m #[Value.ref b] below meth c H [] 600000 7290000 (lw_Z below #[Value.ref b] s) (F0 m pc ls [.int 1]) := by
  intro T hT X
  obtain ⟨fs, hret, hrun, hended, hW, hframe⟩ := X.leave (v := some (.int 1)) (hlocks := hlocks) (fun h => by rw [hr] at h; cases h)
  have hmeth' : T.vm.method? m = some meth := X.method'
  refine ⟨T.setFrames fs, ?_, .returned (some (.int 1)), hrun, hended, rfl, ⟨_, rfl⟩, hW, hframe⟩
  jvm_step X.here [X.here.top, hx, hb, hdg, hmeth', hr, ret, narrow_b1]
  (try refine ⟨rfl, ?_⟩); (try refine ⟨rfl, ?_⟩)
  first | (intro acts; rw [hret _ acts rfl rfl rfl]) | rw [hret _ _ rfl rfl rfl]
  exact Steps.refl _
/-- what holds at the law's entry: the machine, the code, the tables' words (any of lw_tbl by 'hts w (by decide +kernel)'), the script of L ints xs at the cell b, what the Statement gives of the start (any of its parts by flat_of_before) -/
def lw_At (p : Program) (s : State) (m : MethodId) (meth : Method) (c : Code) (b L : Nat) (xs : Nat → Int32) : Prop :=
  p.tables.exec = Jvm.exec ∧ c.code = code ∧ meth.sig.returnType = ret ∧ c.maxLocals = 4 ∧ s.vm.findClass R_law = some m.cls ∧ (∀ w ∈ lw_tbl, w.before #[Value.ref b] s = true) ∧ va_X b L xs s s.heap ∧ b < s.heap.size ∧ meth.locks = false ∧ (Jvm.Cond.and given_1 narrow_1).before #[Value.ref b] s = true
/-- the class and the reference agree, before the call at place i of the script -/
def jg_LI (dC : Nat → ClassId) (dI : Nat → Nat → Nat) (s : State) (b i : Nat) (H : Heap) (locs : List Loc) (ls : Array Slot) : Prop := ∃ (x : Nat) (mk f ks st : Nat → Int32) (h0 h1 h2 h3 h4 g0 g1 : Nat) (d1 d2 d3 d4 e1 : ClassId), (0 < x ∧ x < 65536 ∧ jg_mk mk ∧ jg_im f) ∧ va_K (dC, dI) vwCl [(d1, .int), (d2, .int), (d3, .int), (d4, .short), (e1, .int)] s ∧ va_P (dC, dI) vwCl [(h0, oX (nI x) h1 h2 h3 h4), (h1, aI d1 8 mk), (h2, aI d2 272 f), (h3, aI d3 1024 ks), (h4, aI d4 1024 st), (g0, oM (nI x) g1), (g1, aI e1 8 mk)] H ∧ va_D (fun q : Nat => s.heap.size ≤ q) [(h0, oX (nI x) h1 h2 h3 h4), (h1, aI d1 8 mk), (h2, aI d2 272 f), (h3, aI d3 1024 ks), (h4, aI d4 1024 st), (g0, oM (nI x) g1), (g1, aI e1 8 mk)] ∧ va_S (fun q : Nat => s.heap.size ≤ q) s.heap H locs ∧ lv_has ls 4 [(0, .ref b), (1, .ref h0), (2, .ref g0), (3, .int (nI i))]
theorem jg_cSeed_ok {x : Nat} (x0 : 0 < x) (hx0 : x < 65536) (a : Int32) : ∃ y : Nat, 0 < y ∧ y < 65536 ∧ jg_cSeed (nI x) a = nI y := by
  unfold jg_cSeed
  by_cases h : jg_isS a
  · rw [if_pos h]
    obtain ⟨n, h1, h2, h3⟩ := jg_isS_of h
    exact ⟨n, h1, h2, h3⟩
  · rw [if_neg h]
    exact ⟨x, x0, hx0, rfl⟩
theorem jg_cJump_ok {x : Nat} (x0 : 0 < x) (hx0 : x < 65536) (a : Int32) : ∃ y : Nat, 0 < y ∧ y < 65536 ∧ jg_cJump x a = nI y := by
  unfold jg_cJump
  by_cases h : jg_nr a
  · rw [if_pos h]
    exact ⟨_, jg_w_pos x0 hx0 _, jg_w_lt hx0 _, rfl⟩
  · rw [if_neg h]
    exact ⟨x, x0, hx0, rfl⟩
theorem jg_cBack_ok {x : Nat} (x0 : 0 < x) (hx0 : x < 65536) {mk : Nat → Int32} (hm : jg_mk mk) (a : Int32) : ∃ y : Nat, 0 < y ∧ y < 65536 ∧ jg_cBack mk (nI x) a = nI y := by
  unfold jg_cBack
  by_cases h : jg_isM a ∧ mk a.toNatClampNeg ≠ 0
  · rw [if_pos h]
    obtain ⟨M, hM, e⟩ := jg_isM_of h.1
    have h2 := h.2
    rw [e, nI_clamp (by omega)] at h2 ⊢
    obtain ⟨n, n1, n2⟩ := hm M hM
    rw [n2] at h2 ⊢
    exact ⟨n, Nat.pos_of_ne_zero (fun q => h2 (by rw [q, nI_0])), n1, rfl⟩
  · rw [if_neg h]
    exact ⟨x, x0, hx0, rfl⟩
theorem jg_fMark_ok {x : Nat} (hx0 : x < 65536) {mk : Nat → Int32} (hm : jg_mk mk) (a : Int32) : jg_mk (jg_fMark mk (nI x) a) := by
  unfold jg_fMark
  by_cases h : jg_isM a
  · rw [if_pos h]
    intro i hi
    by_cases e : i = a.toNatClampNeg
    · subst e
      exact ⟨x, hx0, pk_us⟩
    · rw [pk_un e]
      exact hm i hi
  · rw [if_neg h]
    exact hm
set_option maxHeartbeats 4000000 in
set_option maxRecDepth 100000 in
/-- the law: seed -/
theorem jg_law_seed {p : Program} {l : Launch} {e : Env} {s : State} {m : MethodId} {below : List Frame} {meth : Method} {c : Code} {dC : Nat → ClassId} {dI : Nat → Nat → Nat} {b L : Nat} {xs : Nat → Int32} (hL : L ≤ 256) (C0 : lw_At p s m meth c b L xs) (i : Nat) (hi : i + 4 ≤ L) (k9 : ∀ (H : Heap) (locs : List Loc) (ls : Array Slot), jg_LI dC dI s b i H locs ls → W p l e room_1 s m #[Value.ref b] below meth c H locs 7 2343 (lw_Z below #[Value.ref b] s) (F0 m 436 ls [])) (H : Heap) (locs : List Loc) (ls : Array Slot) (hI : jg_LI dC dI s b i H locs ls) : W p l e room_1 s m #[Value.ref b] below meth c H locs 7 2343 (lw_Z below #[Value.ref b] s) (F0 m 104 ls []) := by
  obtain ⟨hx, hb, hr, hml, hown, hts0, hX, hbl, hlocks, hgv⟩ := C0
  have hts : ∀ w ∈ lw_all, w.before #[Value.ref b] s = true := fun w h => hts0 w (lw_all_tbl h)
  have hA : ∀ q : Nat, s.heap.size ≤ q → (fun q : Nat => s.heap.size ≤ q) q := fun _ h => h
  have hbA : ¬ (fun q : Nat => s.heap.size ≤ q) b := Nat.not_le.mpr hbl
  obtain ⟨x, mk, f, ks, st, h0, h1, h2, h3, h4, g0, g1, d1, d2, d3, d4, e1, ⟨x0, hx0, hm, hf⟩, hK, hP, hD, hS, hl⟩ := hI
  refine lv_aload_n hx hb dL_law_104 rfl (lv_at hl 1 rfl) ?_
  refine lv_aload_n hx hb dL_law_105 rfl (lv_at hl 0 rfl) ?_
  refine lv_iload_n hx hb dL_law_106 rfl (lv_at hl 3 rfl) ?_
  refine lv_iconst (v := nI 1) hx hb dL_law_107 (by decide +kernel) ?_
  refine lv_iadd hx hb dL_law_108 ?_
  refine jg_top (y := nI (i + 1)) (nI_add i 1) ?_
  refine jg_sld (j := i + 1) hx hb hX hbl hbA hS (by omega) (by omega) dL_law_109 ?_
  have hPc := hP.sub (ws' := [(h0, oX (nI x) h1 h2 h3 h4)]) [0] rfl
  have hDc := hD.sub (ws' := [(h0, oX (nI x) h1 h2 h3 h4)]) [0] (by decide) rfl
  have hKc := hK.sub (tys' := []) [] rfl
  have hFc := va_free (wc := [(h0, oX (nI x) h1 h2 h3 h4)]) hD hS hA [0] rfl
  refine va_calli (va_runV (As := [.int (xs (i + 1))]) (rest := []) ⟨hx, hb, hml, hown, hts⟩ (c_X0_seed l dC dI h0 h1 h2 h3 h4 H.size (nI x) (xs (i + 1))) (cwV 1 hts (lw_V q49 q50 q51 q13 q52) rfl rfl rfl (by decide +kernel) ⟨Nat.le_of_ble_eq_true rfl, Nat.le_of_ble_eq_true rfl⟩) (jg_preW (ci := 0) (q0 := 0) hK hP rfl rfl rfl hPc hKc hDc) rfl rfl hl.1 rfl (lv_room (Nat.le_of_ble_eq_true rfl)) dL_law_110 ⟨Nat.le_of_ble_eq_true rfl, Nat.le_of_ble_eq_true rfl⟩) hS (fun q _ h => hFc q h) hFc (fun r1 u t H1 locs ht hvm hw hB hz1 hk1 hS => ?_)
  obtain ⟨c1, rfl⟩ : ∃ z, z = u := ⟨_, rfl⟩
  obtain ⟨hP1, hK1, hD1⟩ := hB
  rw [ht] at hP1
  obtain ⟨hP, hD⟩ := va_join (wr := [(h1, aI d1 8 mk), (h2, aI d2 272 f), (h3, aI d3 1024 ks), (h4, aI d4 1024 st), (g0, oM (nI x) g1), (g1, aI e1 8 mk)]) (w1 := [(h0, oX c1 h1 h2 h3 h4)]) hP hD [0] [1, 2, 3, 4, 5, 6] rfl rfl (by decide) (by decide) hk1 hFc hP1 hD1
  generalize H1 = H at hP hS ⊢
  have hP : va_P (dC, dI) vwCl [(h1, aI d1 8 mk), (h2, aI d2 272 f), (h3, aI d3 1024 ks), (h4, aI d4 1024 st), (g0, oM (nI x) g1), (g1, aI e1 8 mk), (h0, oX c1 h1 h2 h3 h4)] H := hP
  have hD : va_D (fun q : Nat => s.heap.size ≤ q) [(h1, aI d1 8 mk), (h2, aI d2 272 f), (h3, aI d3 1024 ks), (h4, aI d4 1024 st), (g0, oM (nI x) g1), (g1, aI e1 8 mk), (h0, oX c1 h1 h2 h3 h4)] := hD
  obtain ⟨er, ec⟩ : r1 = jg_qSeed (xs (i + 1)) ∧ c1 = jg_cSeed (nI x) (xs (i + 1)) := hw
  subst er
  subst ec
  refine lv_aload_n hx hb dL_law_113 rfl (lv_at hl 2 rfl) ?_
  refine lv_aload_n hx hb dL_law_114 rfl (lv_at hl 0 rfl) ?_
  refine lv_iload_n hx hb dL_law_115 rfl (lv_at hl 3 rfl) ?_
  refine lv_iconst (v := nI 1) hx hb dL_law_116 (by decide +kernel) ?_
  refine lv_iadd hx hb dL_law_117 ?_
  refine jg_top (y := nI (i + 1)) (nI_add i 1) ?_
  refine jg_sld (j := i + 1) hx hb hX hbl hbA hS (by omega) (by omega) dL_law_118 ?_
  have hPc := hP.sub (ws' := [(g0, oM (nI x) g1)]) [4] rfl
  have hDc := hD.sub (ws' := [(g0, oM (nI x) g1)]) [4] (by decide) rfl
  have hKc := hK.sub (tys' := []) [] rfl
  have hFc := va_free (wc := [(g0, oM (nI x) g1)]) hD hS hA [4] rfl
  refine va_calli (va_runV (As := [.int (xs (i + 1))]) (rest := [.int (jg_qSeed (xs (i + 1)))]) ⟨hx, hb, hml, hown, hts⟩ (c_X1_seed l dC dI g0 g1 H.size (nI x) (xs (i + 1))) (cwV 1 hts (lw_V q143 q144 q145 q14 q146) rfl rfl rfl (by decide +kernel) ⟨Nat.le_of_ble_eq_true rfl, Nat.le_of_ble_eq_true rfl⟩) (jg_preW (ci := 1) (q0 := 4) hK hP rfl rfl rfl hPc hKc hDc) rfl rfl hl.1 rfl (lv_room (Nat.le_of_ble_eq_true rfl)) dL_law_119 ⟨Nat.le_of_ble_eq_true rfl, Nat.le_of_ble_eq_true rfl⟩) hS (fun q _ h => hFc q h) hFc (fun r2 u t H1 locs ht hvm hw hB hz1 hk1 hS => ?_)
  obtain ⟨c2, rfl⟩ : ∃ z, z = u := ⟨_, rfl⟩
  obtain ⟨hP1, hK1, hD1⟩ := hB
  rw [ht] at hP1
  obtain ⟨hP, hD⟩ := va_join (wr := [(h1, aI d1 8 mk), (h2, aI d2 272 f), (h3, aI d3 1024 ks), (h4, aI d4 1024 st), (g1, aI e1 8 mk), (h0, oX (jg_cSeed (nI x) (xs (i + 1))) h1 h2 h3 h4)]) (w1 := [(g0, oM c2 g1)]) hP hD [4] [0, 1, 2, 3, 5, 6] rfl rfl (by decide) (by decide) hk1 hFc hP1 hD1
  generalize H1 = H at hP hS ⊢
  have hP : va_P (dC, dI) vwCl [(h1, aI d1 8 mk), (h2, aI d2 272 f), (h3, aI d3 1024 ks), (h4, aI d4 1024 st), (g1, aI e1 8 mk), (h0, oX (jg_cSeed (nI x) (xs (i + 1))) h1 h2 h3 h4), (g0, oM c2 g1)] H := hP
  have hD : va_D (fun q : Nat => s.heap.size ≤ q) [(h1, aI d1 8 mk), (h2, aI d2 272 f), (h3, aI d3 1024 ks), (h4, aI d4 1024 st), (g1, aI e1 8 mk), (h0, oX (jg_cSeed (nI x) (xs (i + 1))) h1 h2 h3 h4), (g0, oM c2 g1)] := hD
  obtain ⟨er, ec⟩ : r2 = jg_qSeed (xs (i + 1)) ∧ c2 = jg_cSeed (nI x) (xs (i + 1)) := hw
  subst er
  subst ec
  refine lv_icmp_eq (tgt := 436) hx hb dL_law_122 (by decide) (fun c122 => ?_) (fun c122 => ?_)
  · obtain ⟨y, y0, y1, ey⟩ := jg_cSeed_ok x0 hx0 (xs (i + 1))
    rw [ey] at hP hD
    exact k9 H locs ls ⟨y, mk, f, ks, st, h0, h1, h2, h3, h4, g0, g1, d1, d2, d3, d4, e1, ⟨y0, y1, hm, hf⟩, hK, hP.sub [5, 0, 1, 2, 3, 6, 4] rfl, hD.sub [5, 0, 1, 2, 3, 6, 4] (by decide) rfl, hS, lv_sub hl [0, 1, 2, 3] rfl⟩
  · exact absurd rfl c122
set_option maxHeartbeats 4000000 in
set_option maxRecDepth 100000 in
/-- the law: state -/
theorem jg_law_state {p : Program} {l : Launch} {e : Env} {s : State} {m : MethodId} {below : List Frame} {meth : Method} {c : Code} {dC : Nat → ClassId} {dI : Nat → Nat → Nat} {b L : Nat} {xs : Nat → Int32} (hL : L ≤ 256) (C0 : lw_At p s m meth c b L xs) (i : Nat) (hi : i + 4 ≤ L) (k9 : ∀ (H : Heap) (locs : List Loc) (ls : Array Slot), jg_LI dC dI s b i H locs ls → W p l e room_1 s m #[Value.ref b] below meth c H locs 7 2343 (lw_Z below #[Value.ref b] s) (F0 m 436 ls [])) (H : Heap) (locs : List Loc) (ls : Array Slot) (hI : jg_LI dC dI s b i H locs ls) : W p l e room_1 s m #[Value.ref b] below meth c H locs 7 2343 (lw_Z below #[Value.ref b] s) (F0 m 127 ls []) := by
  obtain ⟨hx, hb, hr, hml, hown, hts0, hX, hbl, hlocks, hgv⟩ := C0
  have hts : ∀ w ∈ lw_all, w.before #[Value.ref b] s = true := fun w h => hts0 w (lw_all_tbl h)
  have hA : ∀ q : Nat, s.heap.size ≤ q → (fun q : Nat => s.heap.size ≤ q) q := fun _ h => h
  have hbA : ¬ (fun q : Nat => s.heap.size ≤ q) b := Nat.not_le.mpr hbl
  obtain ⟨x, mk, f, ks, st, h0, h1, h2, h3, h4, g0, g1, d1, d2, d3, d4, e1, ⟨x0, hx0, hm, hf⟩, hK, hP, hD, hS, hl⟩ := hI
  refine lv_aload_n hx hb dL_law_127 rfl (lv_at hl 1 rfl) ?_
  refine vp_callSi (va_Run.run (va_runV (As := []) (rest := []) ⟨hx, hb, hml, hown, hts⟩ (c_X0_state l dC dI h0 h1 h2 h3 h4 (nI x)) (cwV 0 hts (lw_V q56 q57 q58 q13 q59) rfl rfl rfl (by decide +kernel) ⟨Nat.le_of_ble_eq_true rfl, Nat.le_of_ble_eq_true rfl⟩) (jg_preR (ci := 0) (q0 := 0) hK hP rfl rfl rfl (hP.sub [0] rfl) (hK.sub [] rfl)) rfl rfl hl.1 rfl (lv_room (Nat.le_of_ble_eq_true rfl)) dL_law_128 ⟨Nat.le_of_ble_eq_true rfl, Nat.le_of_ble_eq_true rfl⟩)) (fun r1 (e_r1 : r1 = nI x) => ?_)
  subst e_r1
  refine lv_aload_n hx hb dL_law_131 rfl (lv_at hl 2 rfl) ?_
  refine vp_callSi (va_Run.run (va_runV (As := []) (rest := [.int (nI x)]) ⟨hx, hb, hml, hown, hts⟩ (c_X1_state l dC dI g0 g1 (nI x)) (cwV 0 hts (lw_V q152 q153 q154 q14 q155) rfl rfl rfl (by decide +kernel) ⟨Nat.le_of_ble_eq_true rfl, Nat.le_of_ble_eq_true rfl⟩) (jg_preR (ci := 1) (q0 := 5) hK hP rfl rfl rfl (hP.sub [5] rfl) (hK.sub [] rfl)) rfl rfl hl.1 rfl (lv_room (Nat.le_of_ble_eq_true rfl)) dL_law_132 ⟨Nat.le_of_ble_eq_true rfl, Nat.le_of_ble_eq_true rfl⟩)) (fun r2 (e_r2 : r2 = nI x) => ?_)
  subst e_r2
  refine lv_icmp_eq (tgt := 436) hx hb dL_law_135 (by decide) (fun c135 => ?_) (fun c135 => ?_)
  · exact k9 H locs ls ⟨x, mk, f, ks, st, h0, h1, h2, h3, h4, g0, g1, d1, d2, d3, d4, e1, ⟨x0, hx0, hm, hf⟩, hK, hP.sub [0, 1, 2, 3, 4, 5, 6] rfl, hD.sub [0, 1, 2, 3, 4, 5, 6] (by decide) rfl, hS, lv_sub hl [0, 1, 2, 3] rfl⟩
  · exact absurd rfl c135
set_option maxHeartbeats 4000000 in
set_option maxRecDepth 100000 in
/-- the law: next -/
theorem jg_law_next {p : Program} {l : Launch} {e : Env} {s : State} {m : MethodId} {below : List Frame} {meth : Method} {c : Code} {dC : Nat → ClassId} {dI : Nat → Nat → Nat} {b L : Nat} {xs : Nat → Int32} (hL : L ≤ 256) (C0 : lw_At p s m meth c b L xs) (i : Nat) (hi : i + 4 ≤ L) (k9 : ∀ (H : Heap) (locs : List Loc) (ls : Array Slot), jg_LI dC dI s b i H locs ls → W p l e room_1 s m #[Value.ref b] below meth c H locs 7 2343 (lw_Z below #[Value.ref b] s) (F0 m 436 ls [])) (H : Heap) (locs : List Loc) (ls : Array Slot) (hI : jg_LI dC dI s b i H locs ls) : W p l e room_1 s m #[Value.ref b] below meth c H locs 7 2343 (lw_Z below #[Value.ref b] s) (F0 m 140 ls []) := by
  obtain ⟨hx, hb, hr, hml, hown, hts0, hX, hbl, hlocks, hgv⟩ := C0
  have hts : ∀ w ∈ lw_all, w.before #[Value.ref b] s = true := fun w h => hts0 w (lw_all_tbl h)
  have hA : ∀ q : Nat, s.heap.size ≤ q → (fun q : Nat => s.heap.size ≤ q) q := fun _ h => h
  have hbA : ¬ (fun q : Nat => s.heap.size ≤ q) b := Nat.not_le.mpr hbl
  obtain ⟨x, mk, f, ks, st, h0, h1, h2, h3, h4, g0, g1, d1, d2, d3, d4, e1, ⟨x0, hx0, hm, hf⟩, hK, hP, hD, hS, hl⟩ := hI
  refine lv_aload_n hx hb dL_law_140 rfl (lv_at hl 1 rfl) ?_
  have hPc := hP.sub (ws' := [(h0, oX (nI x) h1 h2 h3 h4)]) [0] rfl
  have hDc := hD.sub (ws' := [(h0, oX (nI x) h1 h2 h3 h4)]) [0] (by decide) rfl
  have hKc := hK.sub (tys' := []) [] rfl
  have hFc := va_free (wc := [(h0, oX (nI x) h1 h2 h3 h4)]) hD hS hA [0] rfl
  refine va_calli (va_runV (As := []) (rest := []) ⟨hx, hb, hml, hown, hts⟩ (c_X0_next l dC dI h0 h1 h2 h3 h4 H.size x hx0) (cwV 0 hts (lw_V q60 q61 q62 q13 q63) rfl rfl rfl (by decide +kernel) ⟨Nat.le_of_ble_eq_true rfl, Nat.le_of_ble_eq_true rfl⟩) (jg_preW (ci := 0) (q0 := 0) hK hP rfl rfl rfl hPc hKc hDc) rfl rfl hl.1 rfl (lv_room (Nat.le_of_ble_eq_true rfl)) dL_law_141 ⟨Nat.le_of_ble_eq_true rfl, Nat.le_of_ble_eq_true rfl⟩) hS (fun q _ h => hFc q h) hFc (fun r1 u t H1 locs ht hvm hw hB hz1 hk1 hS => ?_)
  obtain ⟨c1, rfl⟩ : ∃ z, z = u := ⟨_, rfl⟩
  obtain ⟨hP1, hK1, hD1⟩ := hB
  rw [ht] at hP1
  obtain ⟨hP, hD⟩ := va_join (wr := [(h1, aI d1 8 mk), (h2, aI d2 272 f), (h3, aI d3 1024 ks), (h4, aI d4 1024 st), (g0, oM (nI x) g1), (g1, aI e1 8 mk)]) (w1 := [(h0, oX c1 h1 h2 h3 h4)]) hP hD [0] [1, 2, 3, 4, 5, 6] rfl rfl (by decide) (by decide) hk1 hFc hP1 hD1
  generalize H1 = H at hP hS ⊢
  have hP : va_P (dC, dI) vwCl [(h1, aI d1 8 mk), (h2, aI d2 272 f), (h3, aI d3 1024 ks), (h4, aI d4 1024 st), (g0, oM (nI x) g1), (g1, aI e1 8 mk), (h0, oX c1 h1 h2 h3 h4)] H := hP
  have hD : va_D (fun q : Nat => s.heap.size ≤ q) [(h1, aI d1 8 mk), (h2, aI d2 272 f), (h3, aI d3 1024 ks), (h4, aI d4 1024 st), (g0, oM (nI x) g1), (g1, aI e1 8 mk), (h0, oX c1 h1 h2 h3 h4)] := hD
  obtain ⟨er, ec⟩ : r1 = nI (jg_T x) ∧ c1 = nI (jg_T x) := hw
  subst er
  subst ec
  refine lv_aload_n hx hb dL_law_144 rfl (lv_at hl 2 rfl) ?_
  have hPc := hP.sub (ws' := [(g0, oM (nI x) g1)]) [4] rfl
  have hDc := hD.sub (ws' := [(g0, oM (nI x) g1)]) [4] (by decide) rfl
  have hKc := hK.sub (tys' := []) [] rfl
  have hFc := va_free (wc := [(g0, oM (nI x) g1)]) hD hS hA [4] rfl
  refine va_calli (va_runV (As := []) (rest := [.int (nI (jg_T x))]) ⟨hx, hb, hml, hown, hts⟩ (c_X1_next l dC dI g0 g1 H.size x hx0) (cwV 0 hts (lw_V q156 q157 q158 q14 q159) rfl rfl rfl (by decide +kernel) ⟨Nat.le_of_ble_eq_true rfl, Nat.le_of_ble_eq_true rfl⟩) (jg_preW (ci := 1) (q0 := 4) hK hP rfl rfl rfl hPc hKc hDc) rfl rfl hl.1 rfl (lv_room (Nat.le_of_ble_eq_true rfl)) dL_law_145 ⟨Nat.le_of_ble_eq_true rfl, Nat.le_of_ble_eq_true rfl⟩) hS (fun q _ h => hFc q h) hFc (fun r2 u t H1 locs ht hvm hw hB hz1 hk1 hS => ?_)
  obtain ⟨c2, rfl⟩ : ∃ z, z = u := ⟨_, rfl⟩
  obtain ⟨hP1, hK1, hD1⟩ := hB
  rw [ht] at hP1
  obtain ⟨hP, hD⟩ := va_join (wr := [(h1, aI d1 8 mk), (h2, aI d2 272 f), (h3, aI d3 1024 ks), (h4, aI d4 1024 st), (g1, aI e1 8 mk), (h0, oX (nI (jg_T x)) h1 h2 h3 h4)]) (w1 := [(g0, oM c2 g1)]) hP hD [4] [0, 1, 2, 3, 5, 6] rfl rfl (by decide) (by decide) hk1 hFc hP1 hD1
  generalize H1 = H at hP hS ⊢
  have hP : va_P (dC, dI) vwCl [(h1, aI d1 8 mk), (h2, aI d2 272 f), (h3, aI d3 1024 ks), (h4, aI d4 1024 st), (g1, aI e1 8 mk), (h0, oX (nI (jg_T x)) h1 h2 h3 h4), (g0, oM c2 g1)] H := hP
  have hD : va_D (fun q : Nat => s.heap.size ≤ q) [(h1, aI d1 8 mk), (h2, aI d2 272 f), (h3, aI d3 1024 ks), (h4, aI d4 1024 st), (g1, aI e1 8 mk), (h0, oX (nI (jg_T x)) h1 h2 h3 h4), (g0, oM c2 g1)] := hD
  obtain ⟨er, ec⟩ : r2 = nI (jg_T x) ∧ c2 = nI (jg_T x) := hw
  subst er
  subst ec
  refine lv_icmp_eq (tgt := 436) hx hb dL_law_148 (by decide) (fun c148 => ?_) (fun c148 => ?_)
  · exact k9 H locs ls ⟨jg_T x, mk, f, ks, st, h0, h1, h2, h3, h4, g0, g1, d1, d2, d3, d4, e1, ⟨jg_pos (n := 1) x0 hx0, jg_T_lt x, hm, hf⟩, hK, hP.sub [5, 0, 1, 2, 3, 6, 4] rfl, hD.sub [5, 0, 1, 2, 3, 6, 4] (by decide) rfl, hS, lv_sub hl [0, 1, 2, 3] rfl⟩
  · exact absurd rfl c148
set_option maxHeartbeats 4000000 in
set_option maxRecDepth 100000 in
/-- the law: jump -/
theorem jg_law_jump {p : Program} {l : Launch} {e : Env} {s : State} {m : MethodId} {below : List Frame} {meth : Method} {c : Code} {dC : Nat → ClassId} {dI : Nat → Nat → Nat} {b L : Nat} {xs : Nat → Int32} (hL : L ≤ 256) (C0 : lw_At p s m meth c b L xs) (i : Nat) (hi : i + 4 ≤ L) (k9 : ∀ (H : Heap) (locs : List Loc) (ls : Array Slot), jg_LI dC dI s b i H locs ls → W p l e room_1 s m #[Value.ref b] below meth c H locs 7 2343 (lw_Z below #[Value.ref b] s) (F0 m 436 ls [])) (H : Heap) (locs : List Loc) (ls : Array Slot) (hI : jg_LI dC dI s b i H locs ls) : W p l e room_1 s m #[Value.ref b] below meth c H locs 7 2343 (lw_Z below #[Value.ref b] s) (F0 m 153 ls []) := by
  obtain ⟨hx, hb, hr, hml, hown, hts0, hX, hbl, hlocks, hgv⟩ := C0
  have hts : ∀ w ∈ lw_all, w.before #[Value.ref b] s = true := fun w h => hts0 w (lw_all_tbl h)
  have hA : ∀ q : Nat, s.heap.size ≤ q → (fun q : Nat => s.heap.size ≤ q) q := fun _ h => h
  have hbA : ¬ (fun q : Nat => s.heap.size ≤ q) b := Nat.not_le.mpr hbl
  obtain ⟨x, mk, f, ks, st, h0, h1, h2, h3, h4, g0, g1, d1, d2, d3, d4, e1, ⟨x0, hx0, hm, hf⟩, hK, hP, hD, hS, hl⟩ := hI
  refine lv_aload_n hx hb dL_law_153 rfl (lv_at hl 1 rfl) ?_
  refine lv_aload_n hx hb dL_law_154 rfl (lv_at hl 0 rfl) ?_
  refine lv_iload_n hx hb dL_law_155 rfl (lv_at hl 3 rfl) ?_
  refine lv_iconst (v := nI 1) hx hb dL_law_156 (by decide +kernel) ?_
  refine lv_iadd hx hb dL_law_157 ?_
  refine jg_top (y := nI (i + 1)) (nI_add i 1) ?_
  refine jg_sld (j := i + 1) hx hb hX hbl hbA hS (by omega) (by omega) dL_law_158 ?_
  have hPc := hP.sub (ws' := [(h0, oX (nI x) h1 h2 h3 h4), (h2, aI d2 272 f)]) [0, 2] rfl
  have hDc := hD.sub (ws' := [(h0, oX (nI x) h1 h2 h3 h4), (h2, aI d2 272 f)]) [0, 2] (by decide) rfl
  have hKc := hK.sub (tys' := [(d2, .int)]) [1] rfl
  have hFc := va_free (wc := [(h0, oX (nI x) h1 h2 h3 h4), (h2, aI d2 272 f)]) hD hS hA [0, 2] rfl
  refine va_calli (va_runV (As := [.int (xs (i + 1))]) (rest := []) ⟨hx, hb, hml, hown, hts⟩ (c_X0_jump l dC dI h0 h1 h2 h3 h4 H.size d2 x hx0 f hf (xs (i + 1))) (cwV 1 hts (lw_V q64 q65 q66 q13 q67) rfl rfl rfl (by decide +kernel) ⟨Nat.le_of_ble_eq_true rfl, Nat.le_of_ble_eq_true rfl⟩) (jg_preW (ci := 0) (q0 := 0) hK hP rfl rfl rfl hPc hKc hDc) rfl rfl hl.1 rfl (lv_room (Nat.le_of_ble_eq_true rfl)) dL_law_159 ⟨Nat.le_of_ble_eq_true rfl, Nat.le_of_ble_eq_true rfl⟩) hS (fun q _ h => hFc q h) hFc (fun r1 u t H1 locs ht hvm hw hB hz1 hk1 hS => ?_)
  obtain ⟨c1, rfl⟩ : ∃ z, z = u := ⟨_, rfl⟩
  obtain ⟨hP1, hK1, hD1⟩ := hB
  rw [ht] at hP1
  obtain ⟨hP, hD⟩ := va_join (wr := [(h1, aI d1 8 mk), (h3, aI d3 1024 ks), (h4, aI d4 1024 st), (g0, oM (nI x) g1), (g1, aI e1 8 mk)]) (w1 := [(h0, oX c1 h1 h2 h3 h4), (h2, aI d2 272 f)]) hP hD [0, 2] [1, 3, 4, 5, 6] rfl rfl (by decide) (by decide) hk1 hFc hP1 hD1
  generalize H1 = H at hP hS ⊢
  have hP : va_P (dC, dI) vwCl [(h1, aI d1 8 mk), (h3, aI d3 1024 ks), (h4, aI d4 1024 st), (g0, oM (nI x) g1), (g1, aI e1 8 mk), (h0, oX c1 h1 h2 h3 h4), (h2, aI d2 272 f)] H := hP
  have hD : va_D (fun q : Nat => s.heap.size ≤ q) [(h1, aI d1 8 mk), (h3, aI d3 1024 ks), (h4, aI d4 1024 st), (g0, oM (nI x) g1), (g1, aI e1 8 mk), (h0, oX c1 h1 h2 h3 h4), (h2, aI d2 272 f)] := hD
  obtain ⟨er, ec⟩ : r1 = jg_qJump x (xs (i + 1)) ∧ c1 = jg_cJump x (xs (i + 1)) := hw
  subst er
  subst ec
  refine lv_aload_n hx hb dL_law_162 rfl (lv_at hl 2 rfl) ?_
  refine lv_aload_n hx hb dL_law_163 rfl (lv_at hl 0 rfl) ?_
  refine lv_iload_n hx hb dL_law_164 rfl (lv_at hl 3 rfl) ?_
  refine lv_iconst (v := nI 1) hx hb dL_law_165 (by decide +kernel) ?_
  refine lv_iadd hx hb dL_law_166 ?_
  refine jg_top (y := nI (i + 1)) (nI_add i 1) ?_
  refine jg_sld (j := i + 1) hx hb hX hbl hbA hS (by omega) (by omega) dL_law_167 ?_
  have hPc := hP.sub (ws' := [(g0, oM (nI x) g1)]) [3] rfl
  have hDc := hD.sub (ws' := [(g0, oM (nI x) g1)]) [3] (by decide) rfl
  have hKc := hK.sub (tys' := []) [] rfl
  have hFc := va_free (wc := [(g0, oM (nI x) g1)]) hD hS hA [3] rfl
  refine va_calli (va_runV (As := [.int (xs (i + 1))]) (rest := [.int (jg_qJump x (xs (i + 1)))]) ⟨hx, hb, hml, hown, hts⟩ (c_X1_jump l dC dI g0 g1 H.size x hx0 (xs (i + 1))) (cwV 1 hts (lw_V q164 q165 q166 q14 q167) rfl rfl rfl (by decide +kernel) ⟨Nat.le_of_ble_eq_true rfl, Nat.le_of_ble_eq_true rfl⟩) (jg_preW (ci := 1) (q0 := 3) hK hP rfl rfl rfl hPc hKc hDc) rfl rfl hl.1 rfl (lv_room (Nat.le_of_ble_eq_true rfl)) dL_law_168 ⟨Nat.le_of_ble_eq_true rfl, Nat.le_of_ble_eq_true rfl⟩) hS (fun q _ h => hFc q h) hFc (fun r2 u t H1 locs ht hvm hw hB hz1 hk1 hS => ?_)
  obtain ⟨c2, rfl⟩ : ∃ z, z = u := ⟨_, rfl⟩
  obtain ⟨hP1, hK1, hD1⟩ := hB
  rw [ht] at hP1
  obtain ⟨hP, hD⟩ := va_join (wr := [(h1, aI d1 8 mk), (h3, aI d3 1024 ks), (h4, aI d4 1024 st), (g1, aI e1 8 mk), (h0, oX (jg_cJump x (xs (i + 1))) h1 h2 h3 h4), (h2, aI d2 272 f)]) (w1 := [(g0, oM c2 g1)]) hP hD [3] [0, 1, 2, 4, 5, 6] rfl rfl (by decide) (by decide) hk1 hFc hP1 hD1
  generalize H1 = H at hP hS ⊢
  have hP : va_P (dC, dI) vwCl [(h1, aI d1 8 mk), (h3, aI d3 1024 ks), (h4, aI d4 1024 st), (g1, aI e1 8 mk), (h0, oX (jg_cJump x (xs (i + 1))) h1 h2 h3 h4), (h2, aI d2 272 f), (g0, oM c2 g1)] H := hP
  have hD : va_D (fun q : Nat => s.heap.size ≤ q) [(h1, aI d1 8 mk), (h3, aI d3 1024 ks), (h4, aI d4 1024 st), (g1, aI e1 8 mk), (h0, oX (jg_cJump x (xs (i + 1))) h1 h2 h3 h4), (h2, aI d2 272 f), (g0, oM c2 g1)] := hD
  obtain ⟨er, ec⟩ : r2 = jg_qJump x (xs (i + 1)) ∧ c2 = jg_cJump x (xs (i + 1)) := hw
  subst er
  subst ec
  refine lv_icmp_eq (tgt := 436) hx hb dL_law_171 (by decide) (fun c171 => ?_) (fun c171 => ?_)
  · obtain ⟨y, y0, y1, ey⟩ := jg_cJump_ok x0 hx0 (xs (i + 1))
    rw [ey] at hP hD
    exact k9 H locs ls ⟨y, mk, f, ks, st, h0, h1, h2, h3, h4, g0, g1, d1, d2, d3, d4, e1, ⟨y0, y1, hm, hf⟩, hK, hP.sub [4, 0, 5, 1, 2, 6, 3] rfl, hD.sub [4, 0, 5, 1, 2, 6, 3] (by decide) rfl, hS, lv_sub hl [0, 1, 2, 3] rfl⟩
  · exact absurd rfl c171
set_option maxHeartbeats 4000000 in
set_option maxRecDepth 100000 in
/-- the law: peek -/
theorem jg_law_peek {p : Program} {l : Launch} {e : Env} {s : State} {m : MethodId} {below : List Frame} {meth : Method} {c : Code} {dC : Nat → ClassId} {dI : Nat → Nat → Nat} {b L : Nat} {xs : Nat → Int32} (hL : L ≤ 256) (C0 : lw_At p s m meth c b L xs) (i : Nat) (hi : i + 4 ≤ L) (k9 : ∀ (H : Heap) (locs : List Loc) (ls : Array Slot), jg_LI dC dI s b i H locs ls → W p l e room_1 s m #[Value.ref b] below meth c H locs 7 2343 (lw_Z below #[Value.ref b] s) (F0 m 436 ls [])) (H : Heap) (locs : List Loc) (ls : Array Slot) (hI : jg_LI dC dI s b i H locs ls) : W p l e room_1 s m #[Value.ref b] below meth c H locs 7 2343 (lw_Z below #[Value.ref b] s) (F0 m 176 ls []) := by
  obtain ⟨hx, hb, hr, hml, hown, hts0, hX, hbl, hlocks, hgv⟩ := C0
  have hts : ∀ w ∈ lw_all, w.before #[Value.ref b] s = true := fun w h => hts0 w (lw_all_tbl h)
  have hA : ∀ q : Nat, s.heap.size ≤ q → (fun q : Nat => s.heap.size ≤ q) q := fun _ h => h
  have hbA : ¬ (fun q : Nat => s.heap.size ≤ q) b := Nat.not_le.mpr hbl
  obtain ⟨x, mk, f, ks, st, h0, h1, h2, h3, h4, g0, g1, d1, d2, d3, d4, e1, ⟨x0, hx0, hm, hf⟩, hK, hP, hD, hS, hl⟩ := hI
  refine lv_aload_n hx hb dL_law_176 rfl (lv_at hl 1 rfl) ?_
  refine lv_aload_n hx hb dL_law_177 rfl (lv_at hl 0 rfl) ?_
  refine lv_iload_n hx hb dL_law_178 rfl (lv_at hl 3 rfl) ?_
  refine lv_iconst (v := nI 1) hx hb dL_law_179 (by decide +kernel) ?_
  refine lv_iadd hx hb dL_law_180 ?_
  refine jg_top (y := nI (i + 1)) (nI_add i 1) ?_
  refine jg_sld (j := i + 1) hx hb hX hbl hbA hS (by omega) (by omega) dL_law_181 ?_
  refine vp_callSi (va_Run.run (va_runV (As := [.int (xs (i + 1))]) (rest := []) ⟨hx, hb, hml, hown, hts⟩ (c_X0_peek l dC dI h0 h1 h2 h3 h4 d2 x hx0 f hf (xs (i + 1))) (cwV 1 hts (lw_V q74 q75 q76 q13 q77) rfl rfl rfl (by decide +kernel) ⟨Nat.le_of_ble_eq_true rfl, Nat.le_of_ble_eq_true rfl⟩) (jg_preR (ci := 0) (q0 := 0) hK hP rfl rfl rfl (hP.sub [0, 2] rfl) (hK.sub [1] rfl)) rfl rfl hl.1 rfl (lv_room (Nat.le_of_ble_eq_true rfl)) dL_law_182 ⟨Nat.le_of_ble_eq_true rfl, Nat.le_of_ble_eq_true rfl⟩)) (fun r1 (e_r1 : r1 = jg_qJump x (xs (i + 1))) => ?_)
  subst e_r1
  refine lv_aload_n hx hb dL_law_185 rfl (lv_at hl 2 rfl) ?_
  refine lv_aload_n hx hb dL_law_186 rfl (lv_at hl 0 rfl) ?_
  refine lv_iload_n hx hb dL_law_187 rfl (lv_at hl 3 rfl) ?_
  refine lv_iconst (v := nI 1) hx hb dL_law_188 (by decide +kernel) ?_
  refine lv_iadd hx hb dL_law_189 ?_
  refine jg_top (y := nI (i + 1)) (nI_add i 1) ?_
  refine jg_sld (j := i + 1) hx hb hX hbl hbA hS (by omega) (by omega) dL_law_190 ?_
  refine vp_callSi (va_Run.run (va_runV (As := [.int (xs (i + 1))]) (rest := [.int (jg_qJump x (xs (i + 1)))]) ⟨hx, hb, hml, hown, hts⟩ (c_X1_peek l dC dI g0 g1 x hx0 (xs (i + 1))) (cwV 1 hts (lw_V q182 q183 q184 q14 q185) rfl rfl rfl (by decide +kernel) ⟨Nat.le_of_ble_eq_true rfl, Nat.le_of_ble_eq_true rfl⟩) (jg_preR (ci := 1) (q0 := 5) hK hP rfl rfl rfl (hP.sub [5] rfl) (hK.sub [] rfl)) rfl rfl hl.1 rfl (lv_room (Nat.le_of_ble_eq_true rfl)) dL_law_191 ⟨Nat.le_of_ble_eq_true rfl, Nat.le_of_ble_eq_true rfl⟩)) (fun r2 (e_r2 : r2 = jg_qJump x (xs (i + 1))) => ?_)
  subst e_r2
  refine lv_icmp_eq (tgt := 436) hx hb dL_law_194 (by decide) (fun c194 => ?_) (fun c194 => ?_)
  · exact k9 H locs ls ⟨x, mk, f, ks, st, h0, h1, h2, h3, h4, g0, g1, d1, d2, d3, d4, e1, ⟨x0, hx0, hm, hf⟩, hK, hP.sub [0, 1, 2, 3, 4, 5, 6] rfl, hD.sub [0, 1, 2, 3, 4, 5, 6] (by decide) rfl, hS, lv_sub hl [0, 1, 2, 3] rfl⟩
  · exact absurd rfl c194
set_option maxHeartbeats 4000000 in
set_option maxRecDepth 100000 in
/-- the law: mark -/
theorem jg_law_mark {p : Program} {l : Launch} {e : Env} {s : State} {m : MethodId} {below : List Frame} {meth : Method} {c : Code} {dC : Nat → ClassId} {dI : Nat → Nat → Nat} {b L : Nat} {xs : Nat → Int32} (hL : L ≤ 256) (C0 : lw_At p s m meth c b L xs) (i : Nat) (hi : i + 4 ≤ L) (k9 : ∀ (H : Heap) (locs : List Loc) (ls : Array Slot), jg_LI dC dI s b i H locs ls → W p l e room_1 s m #[Value.ref b] below meth c H locs 7 2343 (lw_Z below #[Value.ref b] s) (F0 m 436 ls [])) (H : Heap) (locs : List Loc) (ls : Array Slot) (hI : jg_LI dC dI s b i H locs ls) : W p l e room_1 s m #[Value.ref b] below meth c H locs 7 2343 (lw_Z below #[Value.ref b] s) (F0 m 199 ls []) := by
  obtain ⟨hx, hb, hr, hml, hown, hts0, hX, hbl, hlocks, hgv⟩ := C0
  have hts : ∀ w ∈ lw_all, w.before #[Value.ref b] s = true := fun w h => hts0 w (lw_all_tbl h)
  have hA : ∀ q : Nat, s.heap.size ≤ q → (fun q : Nat => s.heap.size ≤ q) q := fun _ h => h
  have hbA : ¬ (fun q : Nat => s.heap.size ≤ q) b := Nat.not_le.mpr hbl
  obtain ⟨x, mk, f, ks, st, h0, h1, h2, h3, h4, g0, g1, d1, d2, d3, d4, e1, ⟨x0, hx0, hm, hf⟩, hK, hP, hD, hS, hl⟩ := hI
  refine lv_aload_n hx hb dL_law_199 rfl (lv_at hl 1 rfl) ?_
  refine lv_aload_n hx hb dL_law_200 rfl (lv_at hl 0 rfl) ?_
  refine lv_iload_n hx hb dL_law_201 rfl (lv_at hl 3 rfl) ?_
  refine lv_iconst (v := nI 1) hx hb dL_law_202 (by decide +kernel) ?_
  refine lv_iadd hx hb dL_law_203 ?_
  refine jg_top (y := nI (i + 1)) (nI_add i 1) ?_
  refine jg_sld (j := i + 1) hx hb hX hbl hbA hS (by omega) (by omega) dL_law_204 ?_
  have hPc := hP.sub (ws' := [(h0, oX (nI x) h1 h2 h3 h4), (h1, aI d1 8 mk)]) [0, 1] rfl
  have hDc := hD.sub (ws' := [(h0, oX (nI x) h1 h2 h3 h4), (h1, aI d1 8 mk)]) [0, 1] (by decide) rfl
  have hKc := hK.sub (tys' := [(d1, .int)]) [0] rfl
  have hFc := va_free (wc := [(h0, oX (nI x) h1 h2 h3 h4), (h1, aI d1 8 mk)]) hD hS hA [0, 1] rfl
  refine va_calli (va_runV (As := [.int (xs (i + 1))]) (rest := []) ⟨hx, hb, hml, hown, hts⟩ (c_X0_mark l dC dI h0 h1 h2 h3 h4 H.size d1 (nI x) mk (xs (i + 1))) (cwV 1 hts (lw_V q78 q79 q80 q13 q81) rfl rfl rfl (by decide +kernel) ⟨Nat.le_of_ble_eq_true rfl, Nat.le_of_ble_eq_true rfl⟩) (jg_preW (ci := 0) (q0 := 0) hK hP rfl rfl rfl hPc hKc hDc) rfl rfl hl.1 rfl (lv_room (Nat.le_of_ble_eq_true rfl)) dL_law_205 ⟨Nat.le_of_ble_eq_true rfl, Nat.le_of_ble_eq_true rfl⟩) hS (fun q _ h => hFc q h) hFc (fun r1 u t H1 locs ht hvm hw hB hz1 hk1 hS => ?_)
  obtain ⟨f1, rfl⟩ : ∃ z, z = u := ⟨_, rfl⟩
  obtain ⟨hP1, hK1, hD1⟩ := hB
  rw [ht] at hP1
  obtain ⟨hP, hD⟩ := va_join (wr := [(h2, aI d2 272 f), (h3, aI d3 1024 ks), (h4, aI d4 1024 st), (g0, oM (nI x) g1), (g1, aI e1 8 mk)]) (w1 := [(h0, oX (nI x) h1 h2 h3 h4), (h1, aI d1 8 f1)]) hP hD [0, 1] [2, 3, 4, 5, 6] rfl rfl (by decide) (by decide) hk1 hFc hP1 hD1
  generalize H1 = H at hP hS ⊢
  have hP : va_P (dC, dI) vwCl [(h2, aI d2 272 f), (h3, aI d3 1024 ks), (h4, aI d4 1024 st), (g0, oM (nI x) g1), (g1, aI e1 8 mk), (h0, oX (nI x) h1 h2 h3 h4), (h1, aI d1 8 f1)] H := hP
  have hD : va_D (fun q : Nat => s.heap.size ≤ q) [(h2, aI d2 272 f), (h3, aI d3 1024 ks), (h4, aI d4 1024 st), (g0, oM (nI x) g1), (g1, aI e1 8 mk), (h0, oX (nI x) h1 h2 h3 h4), (h1, aI d1 8 f1)] := hD
  obtain ⟨er, ec⟩ : r1 = jg_qMark (xs (i + 1)) ∧ f1 = jg_fMark mk (nI x) (xs (i + 1)) := hw
  subst er
  subst ec
  refine lv_aload_n hx hb dL_law_208 rfl (lv_at hl 2 rfl) ?_
  refine lv_aload_n hx hb dL_law_209 rfl (lv_at hl 0 rfl) ?_
  refine lv_iload_n hx hb dL_law_210 rfl (lv_at hl 3 rfl) ?_
  refine lv_iconst (v := nI 1) hx hb dL_law_211 (by decide +kernel) ?_
  refine lv_iadd hx hb dL_law_212 ?_
  refine jg_top (y := nI (i + 1)) (nI_add i 1) ?_
  refine jg_sld (j := i + 1) hx hb hX hbl hbA hS (by omega) (by omega) dL_law_213 ?_
  have hPc := hP.sub (ws' := [(g0, oM (nI x) g1), (g1, aI e1 8 mk)]) [3, 4] rfl
  have hDc := hD.sub (ws' := [(g0, oM (nI x) g1), (g1, aI e1 8 mk)]) [3, 4] (by decide) rfl
  have hKc := hK.sub (tys' := [(e1, .int)]) [4] rfl
  have hFc := va_free (wc := [(g0, oM (nI x) g1), (g1, aI e1 8 mk)]) hD hS hA [3, 4] rfl
  refine va_calli (va_runV (As := [.int (xs (i + 1))]) (rest := [.int (jg_qMark (xs (i + 1)))]) ⟨hx, hb, hml, hown, hts⟩ (c_X1_mark l dC dI g0 g1 H.size e1 (nI x) mk (xs (i + 1))) (cwV 1 hts (lw_V q186 q187 q188 q14 q189) rfl rfl rfl (by decide +kernel) ⟨Nat.le_of_ble_eq_true rfl, Nat.le_of_ble_eq_true rfl⟩) (jg_preW (ci := 1) (q0 := 3) hK hP rfl rfl rfl hPc hKc hDc) rfl rfl hl.1 rfl (lv_room (Nat.le_of_ble_eq_true rfl)) dL_law_214 ⟨Nat.le_of_ble_eq_true rfl, Nat.le_of_ble_eq_true rfl⟩) hS (fun q _ h => hFc q h) hFc (fun r2 u t H1 locs ht hvm hw hB hz1 hk1 hS => ?_)
  obtain ⟨f2, rfl⟩ : ∃ z, z = u := ⟨_, rfl⟩
  obtain ⟨hP1, hK1, hD1⟩ := hB
  rw [ht] at hP1
  obtain ⟨hP, hD⟩ := va_join (wr := [(h2, aI d2 272 f), (h3, aI d3 1024 ks), (h4, aI d4 1024 st), (h0, oX (nI x) h1 h2 h3 h4), (h1, aI d1 8 (jg_fMark mk (nI x) (xs (i + 1))))]) (w1 := [(g0, oM (nI x) g1), (g1, aI e1 8 f2)]) hP hD [3, 4] [0, 1, 2, 5, 6] rfl rfl (by decide) (by decide) hk1 hFc hP1 hD1
  generalize H1 = H at hP hS ⊢
  have hP : va_P (dC, dI) vwCl [(h2, aI d2 272 f), (h3, aI d3 1024 ks), (h4, aI d4 1024 st), (h0, oX (nI x) h1 h2 h3 h4), (h1, aI d1 8 (jg_fMark mk (nI x) (xs (i + 1)))), (g0, oM (nI x) g1), (g1, aI e1 8 f2)] H := hP
  have hD : va_D (fun q : Nat => s.heap.size ≤ q) [(h2, aI d2 272 f), (h3, aI d3 1024 ks), (h4, aI d4 1024 st), (h0, oX (nI x) h1 h2 h3 h4), (h1, aI d1 8 (jg_fMark mk (nI x) (xs (i + 1)))), (g0, oM (nI x) g1), (g1, aI e1 8 f2)] := hD
  obtain ⟨er, ec⟩ : r2 = jg_qMark (xs (i + 1)) ∧ f2 = jg_fMark mk (nI x) (xs (i + 1)) := hw
  subst er
  subst ec
  refine lv_icmp_eq (tgt := 436) hx hb dL_law_217 (by decide) (fun c217 => ?_) (fun c217 => ?_)
  · exact k9 H locs ls ⟨x, jg_fMark mk (nI x) (xs (i + 1)), f, ks, st, h0, h1, h2, h3, h4, g0, g1, d1, d2, d3, d4, e1, ⟨x0, hx0, jg_fMark_ok hx0 hm (xs (i + 1)), hf⟩, hK, hP.sub [3, 4, 0, 1, 2, 5, 6] rfl, hD.sub [3, 4, 0, 1, 2, 5, 6] (by decide) rfl, hS, lv_sub hl [0, 1, 2, 3] rfl⟩
  · exact absurd rfl c217
set_option maxHeartbeats 4000000 in
set_option maxRecDepth 100000 in
/-- the law: back -/
theorem jg_law_back {p : Program} {l : Launch} {e : Env} {s : State} {m : MethodId} {below : List Frame} {meth : Method} {c : Code} {dC : Nat → ClassId} {dI : Nat → Nat → Nat} {b L : Nat} {xs : Nat → Int32} (hL : L ≤ 256) (C0 : lw_At p s m meth c b L xs) (i : Nat) (hi : i + 4 ≤ L) (k9 : ∀ (H : Heap) (locs : List Loc) (ls : Array Slot), jg_LI dC dI s b i H locs ls → W p l e room_1 s m #[Value.ref b] below meth c H locs 7 2343 (lw_Z below #[Value.ref b] s) (F0 m 436 ls [])) (H : Heap) (locs : List Loc) (ls : Array Slot) (hI : jg_LI dC dI s b i H locs ls) : W p l e room_1 s m #[Value.ref b] below meth c H locs 7 2343 (lw_Z below #[Value.ref b] s) (F0 m 222 ls []) := by
  obtain ⟨hx, hb, hr, hml, hown, hts0, hX, hbl, hlocks, hgv⟩ := C0
  have hts : ∀ w ∈ lw_all, w.before #[Value.ref b] s = true := fun w h => hts0 w (lw_all_tbl h)
  have hA : ∀ q : Nat, s.heap.size ≤ q → (fun q : Nat => s.heap.size ≤ q) q := fun _ h => h
  have hbA : ¬ (fun q : Nat => s.heap.size ≤ q) b := Nat.not_le.mpr hbl
  obtain ⟨x, mk, f, ks, st, h0, h1, h2, h3, h4, g0, g1, d1, d2, d3, d4, e1, ⟨x0, hx0, hm, hf⟩, hK, hP, hD, hS, hl⟩ := hI
  refine lv_aload_n hx hb dL_law_222 rfl (lv_at hl 1 rfl) ?_
  refine lv_aload_n hx hb dL_law_223 rfl (lv_at hl 0 rfl) ?_
  refine lv_iload_n hx hb dL_law_224 rfl (lv_at hl 3 rfl) ?_
  refine lv_iconst (v := nI 1) hx hb dL_law_225 (by decide +kernel) ?_
  refine lv_iadd hx hb dL_law_226 ?_
  refine jg_top (y := nI (i + 1)) (nI_add i 1) ?_
  refine jg_sld (j := i + 1) hx hb hX hbl hbA hS (by omega) (by omega) dL_law_227 ?_
  have hPc := hP.sub (ws' := [(h0, oX (nI x) h1 h2 h3 h4), (h1, aI d1 8 mk)]) [0, 1] rfl
  have hDc := hD.sub (ws' := [(h0, oX (nI x) h1 h2 h3 h4), (h1, aI d1 8 mk)]) [0, 1] (by decide) rfl
  have hKc := hK.sub (tys' := [(d1, .int)]) [0] rfl
  have hFc := va_free (wc := [(h0, oX (nI x) h1 h2 h3 h4), (h1, aI d1 8 mk)]) hD hS hA [0, 1] rfl
  refine va_calli (va_runV (As := [.int (xs (i + 1))]) (rest := []) ⟨hx, hb, hml, hown, hts⟩ (c_X0_back l dC dI h0 h1 h2 h3 h4 H.size d1 (nI x) mk (xs (i + 1))) (cwV 1 hts (lw_V q85 q86 q87 q13 q88) rfl rfl rfl (by decide +kernel) ⟨Nat.le_of_ble_eq_true rfl, Nat.le_of_ble_eq_true rfl⟩) (jg_preW (ci := 0) (q0 := 0) hK hP rfl rfl rfl hPc hKc hDc) rfl rfl hl.1 rfl (lv_room (Nat.le_of_ble_eq_true rfl)) dL_law_228 ⟨Nat.le_of_ble_eq_true rfl, Nat.le_of_ble_eq_true rfl⟩) hS (fun q _ h => hFc q h) hFc (fun r1 u t H1 locs ht hvm hw hB hz1 hk1 hS => ?_)
  obtain ⟨c1, rfl⟩ : ∃ z, z = u := ⟨_, rfl⟩
  obtain ⟨hP1, hK1, hD1⟩ := hB
  rw [ht] at hP1
  obtain ⟨hP, hD⟩ := va_join (wr := [(h2, aI d2 272 f), (h3, aI d3 1024 ks), (h4, aI d4 1024 st), (g0, oM (nI x) g1), (g1, aI e1 8 mk)]) (w1 := [(h0, oX c1 h1 h2 h3 h4), (h1, aI d1 8 mk)]) hP hD [0, 1] [2, 3, 4, 5, 6] rfl rfl (by decide) (by decide) hk1 hFc hP1 hD1
  generalize H1 = H at hP hS ⊢
  have hP : va_P (dC, dI) vwCl [(h2, aI d2 272 f), (h3, aI d3 1024 ks), (h4, aI d4 1024 st), (g0, oM (nI x) g1), (g1, aI e1 8 mk), (h0, oX c1 h1 h2 h3 h4), (h1, aI d1 8 mk)] H := hP
  have hD : va_D (fun q : Nat => s.heap.size ≤ q) [(h2, aI d2 272 f), (h3, aI d3 1024 ks), (h4, aI d4 1024 st), (g0, oM (nI x) g1), (g1, aI e1 8 mk), (h0, oX c1 h1 h2 h3 h4), (h1, aI d1 8 mk)] := hD
  obtain ⟨er, ec⟩ : r1 = jg_qBack mk (xs (i + 1)) ∧ c1 = jg_cBack mk (nI x) (xs (i + 1)) := hw
  subst er
  subst ec
  refine lv_aload_n hx hb dL_law_231 rfl (lv_at hl 2 rfl) ?_
  refine lv_aload_n hx hb dL_law_232 rfl (lv_at hl 0 rfl) ?_
  refine lv_iload_n hx hb dL_law_233 rfl (lv_at hl 3 rfl) ?_
  refine lv_iconst (v := nI 1) hx hb dL_law_234 (by decide +kernel) ?_
  refine lv_iadd hx hb dL_law_235 ?_
  refine jg_top (y := nI (i + 1)) (nI_add i 1) ?_
  refine jg_sld (j := i + 1) hx hb hX hbl hbA hS (by omega) (by omega) dL_law_236 ?_
  have hPc := hP.sub (ws' := [(g0, oM (nI x) g1), (g1, aI e1 8 mk)]) [3, 4] rfl
  have hDc := hD.sub (ws' := [(g0, oM (nI x) g1), (g1, aI e1 8 mk)]) [3, 4] (by decide) rfl
  have hKc := hK.sub (tys' := [(e1, .int)]) [4] rfl
  have hFc := va_free (wc := [(g0, oM (nI x) g1), (g1, aI e1 8 mk)]) hD hS hA [3, 4] rfl
  refine va_calli (va_runV (As := [.int (xs (i + 1))]) (rest := [.int (jg_qBack mk (xs (i + 1)))]) ⟨hx, hb, hml, hown, hts⟩ (c_X1_back l dC dI g0 g1 H.size e1 (nI x) mk hm (xs (i + 1))) (cwV 1 hts (lw_V q190 q191 q192 q14 q193) rfl rfl rfl (by decide +kernel) ⟨Nat.le_of_ble_eq_true rfl, Nat.le_of_ble_eq_true rfl⟩) (jg_preW (ci := 1) (q0 := 3) hK hP rfl rfl rfl hPc hKc hDc) rfl rfl hl.1 rfl (lv_room (Nat.le_of_ble_eq_true rfl)) dL_law_237 ⟨Nat.le_of_ble_eq_true rfl, Nat.le_of_ble_eq_true rfl⟩) hS (fun q _ h => hFc q h) hFc (fun r2 u t H1 locs ht hvm hw hB hz1 hk1 hS => ?_)
  obtain ⟨c2, rfl⟩ : ∃ z, z = u := ⟨_, rfl⟩
  obtain ⟨hP1, hK1, hD1⟩ := hB
  rw [ht] at hP1
  obtain ⟨hP, hD⟩ := va_join (wr := [(h2, aI d2 272 f), (h3, aI d3 1024 ks), (h4, aI d4 1024 st), (h0, oX (jg_cBack mk (nI x) (xs (i + 1))) h1 h2 h3 h4), (h1, aI d1 8 mk)]) (w1 := [(g0, oM c2 g1), (g1, aI e1 8 mk)]) hP hD [3, 4] [0, 1, 2, 5, 6] rfl rfl (by decide) (by decide) hk1 hFc hP1 hD1
  generalize H1 = H at hP hS ⊢
  have hP : va_P (dC, dI) vwCl [(h2, aI d2 272 f), (h3, aI d3 1024 ks), (h4, aI d4 1024 st), (h0, oX (jg_cBack mk (nI x) (xs (i + 1))) h1 h2 h3 h4), (h1, aI d1 8 mk), (g0, oM c2 g1), (g1, aI e1 8 mk)] H := hP
  have hD : va_D (fun q : Nat => s.heap.size ≤ q) [(h2, aI d2 272 f), (h3, aI d3 1024 ks), (h4, aI d4 1024 st), (h0, oX (jg_cBack mk (nI x) (xs (i + 1))) h1 h2 h3 h4), (h1, aI d1 8 mk), (g0, oM c2 g1), (g1, aI e1 8 mk)] := hD
  obtain ⟨er, ec⟩ : r2 = jg_qBack mk (xs (i + 1)) ∧ c2 = jg_cBack mk (nI x) (xs (i + 1)) := hw
  subst er
  subst ec
  refine lv_icmp_eq (tgt := 436) hx hb dL_law_240 (by decide) (fun c240 => ?_) (fun c240 => ?_)
  · obtain ⟨y, y0, y1, ey⟩ := jg_cBack_ok x0 hx0 hm (xs (i + 1))
    rw [ey] at hP hD
    exact k9 H locs ls ⟨y, mk, f, ks, st, h0, h1, h2, h3, h4, g0, g1, d1, d2, d3, d4, e1, ⟨y0, y1, hm, hf⟩, hK, hP.sub [3, 4, 0, 1, 2, 5, 6] rfl, hD.sub [3, 4, 0, 1, 2, 5, 6] (by decide) rfl, hS, lv_sub hl [0, 1, 2, 3] rfl⟩
  · exact absurd rfl c240
set_option maxHeartbeats 4000000 in
set_option maxRecDepth 100000 in
/-- the law: distance -/
theorem jg_law_distance {p : Program} {l : Launch} {e : Env} {s : State} {m : MethodId} {below : List Frame} {meth : Method} {c : Code} {dC : Nat → ClassId} {dI : Nat → Nat → Nat} {b L : Nat} {xs : Nat → Int32} (hL : L ≤ 256) (C0 : lw_At p s m meth c b L xs) (i : Nat) (hi : i + 4 ≤ L) (k9 : ∀ (H : Heap) (locs : List Loc) (ls : Array Slot), jg_LI dC dI s b i H locs ls → W p l e room_1 s m #[Value.ref b] below meth c H locs 7 2343 (lw_Z below #[Value.ref b] s) (F0 m 436 ls [])) (H : Heap) (locs : List Loc) (ls : Array Slot) (hI : jg_LI dC dI s b i H locs ls) : W p l e room_1 s m #[Value.ref b] below meth c H locs 7 2343 (lw_Z below #[Value.ref b] s) (F0 m 245 ls []) := by
  obtain ⟨hx, hb, hr, hml, hown, hts0, hX, hbl, hlocks, hgv⟩ := C0
  have hts : ∀ w ∈ lw_all, w.before #[Value.ref b] s = true := fun w h => hts0 w (lw_all_tbl h)
  have hA : ∀ q : Nat, s.heap.size ≤ q → (fun q : Nat => s.heap.size ≤ q) q := fun _ h => h
  have hbA : ¬ (fun q : Nat => s.heap.size ≤ q) b := Nat.not_le.mpr hbl
  obtain ⟨x, mk, f, ks, st, h0, h1, h2, h3, h4, g0, g1, d1, d2, d3, d4, e1, ⟨x0, hx0, hm, hf⟩, hK, hP, hD, hS, hl⟩ := hI
  refine lv_aload_n hx hb dL_law_245 rfl (lv_at hl 1 rfl) ?_
  refine lv_aload_n hx hb dL_law_246 rfl (lv_at hl 0 rfl) ?_
  refine lv_iload_n hx hb dL_law_247 rfl (lv_at hl 3 rfl) ?_
  refine lv_iconst (v := nI 1) hx hb dL_law_248 (by decide +kernel) ?_
  refine lv_iadd hx hb dL_law_249 ?_
  refine jg_top (y := nI (i + 1)) (nI_add i 1) ?_
  refine jg_sld (j := i + 1) hx hb hX hbl hbA hS (by omega) (by omega) dL_law_250 ?_
  have hPc := hP.sub (ws' := [(h0, oX (nI x) h1 h2 h3 h4), (h2, aI d2 272 f), (h3, aI d3 1024 ks), (h4, aI d4 1024 st)]) [0, 2, 3, 4] rfl
  have hDc := hD.sub (ws' := [(h0, oX (nI x) h1 h2 h3 h4), (h2, aI d2 272 f), (h3, aI d3 1024 ks), (h4, aI d4 1024 st)]) [0, 2, 3, 4] (by decide) rfl
  have hKc := hK.sub (tys' := [(d2, .int), (d3, .int), (d4, .short)]) [1, 2, 3] rfl
  have hFc := va_free (wc := [(h0, oX (nI x) h1 h2 h3 h4), (h2, aI d2 272 f), (h3, aI d3 1024 ks), (h4, aI d4 1024 st)]) hD hS hA [0, 2, 3, 4] rfl
  refine va_calli (va_runV (As := [.int (xs (i + 1))]) (rest := []) ⟨hx, hb, hml, hown, hts⟩ (c_X0_distance l dC dI h0 h1 h2 h3 h4 H.size d2 d3 d4 x x0 hx0 f ks st hf (xs (i + 1))) (cwV 1 hts (lw_V q89 q90 q91 q13 q92) rfl rfl rfl (by decide +kernel) ⟨Nat.le_of_ble_eq_true rfl, Nat.le_of_ble_eq_true rfl⟩) (jg_preW (ci := 0) (q0 := 0) hK hP rfl rfl rfl hPc hKc hDc) rfl rfl hl.1 rfl (lv_room (Nat.le_of_ble_eq_true rfl)) dL_law_251 ⟨Nat.le_of_ble_eq_true rfl, Nat.le_of_ble_eq_true rfl⟩) hS (fun q _ h => hFc q h) hFc (fun r1 u t H1 locs ht hvm hw hB hz1 hk1 hS => ?_)
  obtain ⟨k2, s2⟩ := u
  obtain ⟨hP1, hK1, hD1⟩ := hB
  rw [ht] at hP1
  obtain ⟨hP, hD⟩ := va_join (wr := [(h1, aI d1 8 mk), (g0, oM (nI x) g1), (g1, aI e1 8 mk)]) (w1 := [(h0, oX (nI x) h1 h2 h3 h4), (h2, aI d2 272 f), (h3, aI d3 1024 k2), (h4, aI d4 1024 s2)]) hP hD [0, 2, 3, 4] [1, 5, 6] rfl rfl (by decide) (by decide) hk1 hFc hP1 hD1
  generalize H1 = H at hP hS ⊢
  have hP : va_P (dC, dI) vwCl [(h1, aI d1 8 mk), (g0, oM (nI x) g1), (g1, aI e1 8 mk), (h0, oX (nI x) h1 h2 h3 h4), (h2, aI d2 272 f), (h3, aI d3 1024 k2), (h4, aI d4 1024 s2)] H := hP
  have hD : va_D (fun q : Nat => s.heap.size ≤ q) [(h1, aI d1 8 mk), (g0, oM (nI x) g1), (g1, aI e1 8 mk), (h0, oX (nI x) h1 h2 h3 h4), (h2, aI d2 272 f), (h3, aI d3 1024 k2), (h4, aI d4 1024 s2)] := hD
  have hw : r1 = jg_qDist x (xs (i + 1)) := hw
  subst hw
  refine lv_aload_n hx hb dL_law_254 rfl (lv_at hl 2 rfl) ?_
  refine lv_aload_n hx hb dL_law_255 rfl (lv_at hl 0 rfl) ?_
  refine lv_iload_n hx hb dL_law_256 rfl (lv_at hl 3 rfl) ?_
  refine lv_iconst (v := nI 1) hx hb dL_law_257 (by decide +kernel) ?_
  refine lv_iadd hx hb dL_law_258 ?_
  refine jg_top (y := nI (i + 1)) (nI_add i 1) ?_
  refine jg_sld (j := i + 1) hx hb hX hbl hbA hS (by omega) (by omega) dL_law_259 ?_
  refine vp_callSi (va_Run.run (va_runV (As := [.int (xs (i + 1))]) (rest := [.int (jg_qDist x (xs (i + 1)))]) ⟨hx, hb, hml, hown, hts⟩ (c_X1_distance l dC dI g0 g1 x x0 hx0 (xs (i + 1))) (cwV 1 hts (lw_V q198 q199 q200 q14 q201) rfl rfl rfl (by decide +kernel) ⟨Nat.le_of_ble_eq_true rfl, Nat.le_of_ble_eq_true rfl⟩) (jg_preR (ci := 1) (q0 := 1) hK hP rfl rfl rfl (hP.sub [1] rfl) (hK.sub [] rfl)) rfl rfl hl.1 rfl (lv_room (Nat.le_of_ble_eq_true rfl)) dL_law_260 ⟨Nat.le_of_ble_eq_true rfl, Nat.le_of_ble_eq_true rfl⟩)) (fun r2 (e_r2 : r2 = jg_qDist x (xs (i + 1))) => ?_)
  subst e_r2
  refine lv_icmp_eq (tgt := 436) hx hb dL_law_263 (by decide) (fun c263 => ?_) (fun c263 => ?_)
  · exact k9 H locs ls ⟨x, mk, f, k2, s2, h0, h1, h2, h3, h4, g0, g1, d1, d2, d3, d4, e1, ⟨x0, hx0, hm, hf⟩, hK, hP.sub [3, 0, 4, 5, 6, 1, 2] rfl, hD.sub [3, 0, 4, 5, 6, 1, 2] (by decide) rfl, hS, lv_sub hl [0, 1, 2, 3] rfl⟩
  · exact absurd rfl c263
set_option maxHeartbeats 4000000 in
set_option maxRecDepth 100000 in
/-- the law: between -/
theorem jg_law_between {p : Program} {l : Launch} {e : Env} {s : State} {m : MethodId} {below : List Frame} {meth : Method} {c : Code} {dC : Nat → ClassId} {dI : Nat → Nat → Nat} {b L : Nat} {xs : Nat → Int32} (hL : L ≤ 256) (C0 : lw_At p s m meth c b L xs) (i : Nat) (hi : i + 4 ≤ L) (k9 : ∀ (H : Heap) (locs : List Loc) (ls : Array Slot), jg_LI dC dI s b i H locs ls → W p l e room_1 s m #[Value.ref b] below meth c H locs 7 2343 (lw_Z below #[Value.ref b] s) (F0 m 436 ls [])) (H : Heap) (locs : List Loc) (ls : Array Slot) (hI : jg_LI dC dI s b i H locs ls) : W p l e room_1 s m #[Value.ref b] below meth c H locs 7 2343 (lw_Z below #[Value.ref b] s) (F0 m 268 ls []) := by
  obtain ⟨hx, hb, hr, hml, hown, hts0, hX, hbl, hlocks, hgv⟩ := C0
  have hts : ∀ w ∈ lw_all, w.before #[Value.ref b] s = true := fun w h => hts0 w (lw_all_tbl h)
  have hA : ∀ q : Nat, s.heap.size ≤ q → (fun q : Nat => s.heap.size ≤ q) q := fun _ h => h
  have hbA : ¬ (fun q : Nat => s.heap.size ≤ q) b := Nat.not_le.mpr hbl
  obtain ⟨x, mk, f, ks, st, h0, h1, h2, h3, h4, g0, g1, d1, d2, d3, d4, e1, ⟨x0, hx0, hm, hf⟩, hK, hP, hD, hS, hl⟩ := hI
  refine lv_aload_n hx hb dL_law_268 rfl (lv_at hl 1 rfl) ?_
  refine lv_aload_n hx hb dL_law_269 rfl (lv_at hl 0 rfl) ?_
  refine lv_iload_n hx hb dL_law_270 rfl (lv_at hl 3 rfl) ?_
  refine lv_iconst (v := nI 1) hx hb dL_law_271 (by decide +kernel) ?_
  refine lv_iadd hx hb dL_law_272 ?_
  refine jg_top (y := nI (i + 1)) (nI_add i 1) ?_
  refine jg_sld (j := i + 1) hx hb hX hbl hbA hS (by omega) (by omega) dL_law_273 ?_
  refine lv_aload_n hx hb dL_law_274 rfl (lv_at hl 0 rfl) ?_
  refine lv_iload_n hx hb dL_law_275 rfl (lv_at hl 3 rfl) ?_
  refine lv_iconst (v := nI 2) hx hb dL_law_276 (by decide +kernel) ?_
  refine lv_iadd hx hb dL_law_277 ?_
  refine jg_top (y := nI (i + 2)) (nI_add i 2) ?_
  refine jg_sld (j := i + 2) hx hb hX hbl hbA hS (by omega) (by omega) dL_law_278 ?_
  have hPc := hP.sub (ws' := [(h0, oX (nI x) h1 h2 h3 h4), (h1, aI d1 8 mk), (h2, aI d2 272 f), (h3, aI d3 1024 ks), (h4, aI d4 1024 st)]) [0, 1, 2, 3, 4] rfl
  have hDc := hD.sub (ws' := [(h0, oX (nI x) h1 h2 h3 h4), (h1, aI d1 8 mk), (h2, aI d2 272 f), (h3, aI d3 1024 ks), (h4, aI d4 1024 st)]) [0, 1, 2, 3, 4] (by decide) rfl
  have hKc := hK.sub (tys' := [(d1, .int), (d2, .int), (d3, .int), (d4, .short)]) [0, 1, 2, 3] rfl
  have hFc := va_free (wc := [(h0, oX (nI x) h1 h2 h3 h4), (h1, aI d1 8 mk), (h2, aI d2 272 f), (h3, aI d3 1024 ks), (h4, aI d4 1024 st)]) hD hS hA [0, 1, 2, 3, 4] rfl
  refine va_calli (va_runV (As := [.int (xs (i + 1)), .int (xs (i + 2))]) (rest := []) ⟨hx, hb, hml, hown, hts⟩ (c_X0_between l dC dI h0 h1 h2 h3 h4 H.size d1 d2 d3 d4 (nI x) mk f ks st hm hf (xs (i + 1)) (xs (i + 2))) (cwV 2 hts (lw_V q106 q107 q108 q13 q109) rfl rfl rfl (by decide +kernel) ⟨Nat.le_of_ble_eq_true rfl, Nat.le_of_ble_eq_true rfl⟩) (jg_preW (ci := 0) (q0 := 0) hK hP rfl rfl rfl hPc hKc hDc) rfl rfl hl.1 rfl (lv_room (Nat.le_of_ble_eq_true rfl)) dL_law_279 ⟨Nat.le_of_ble_eq_true rfl, Nat.le_of_ble_eq_true rfl⟩) hS (fun q _ h => hFc q h) hFc (fun r1 u t H1 locs ht hvm hw hB hz1 hk1 hS => ?_)
  obtain ⟨k2, s2⟩ := u
  obtain ⟨hP1, hK1, hD1⟩ := hB
  rw [ht] at hP1
  obtain ⟨hP, hD⟩ := va_join (wr := [(g0, oM (nI x) g1), (g1, aI e1 8 mk)]) (w1 := [(h0, oX (nI x) h1 h2 h3 h4), (h1, aI d1 8 mk), (h2, aI d2 272 f), (h3, aI d3 1024 k2), (h4, aI d4 1024 s2)]) hP hD [0, 1, 2, 3, 4] [5, 6] rfl rfl (by decide) (by decide) hk1 hFc hP1 hD1
  generalize H1 = H at hP hS ⊢
  have hP : va_P (dC, dI) vwCl [(g0, oM (nI x) g1), (g1, aI e1 8 mk), (h0, oX (nI x) h1 h2 h3 h4), (h1, aI d1 8 mk), (h2, aI d2 272 f), (h3, aI d3 1024 k2), (h4, aI d4 1024 s2)] H := hP
  have hD : va_D (fun q : Nat => s.heap.size ≤ q) [(g0, oM (nI x) g1), (g1, aI e1 8 mk), (h0, oX (nI x) h1 h2 h3 h4), (h1, aI d1 8 mk), (h2, aI d2 272 f), (h3, aI d3 1024 k2), (h4, aI d4 1024 s2)] := hD
  have hw : r1 = jg_qBetw mk (xs (i + 1)) (xs (i + 2)) := hw
  subst hw
  refine lv_aload_n hx hb dL_law_282 rfl (lv_at hl 2 rfl) ?_
  refine lv_aload_n hx hb dL_law_283 rfl (lv_at hl 0 rfl) ?_
  refine lv_iload_n hx hb dL_law_284 rfl (lv_at hl 3 rfl) ?_
  refine lv_iconst (v := nI 1) hx hb dL_law_285 (by decide +kernel) ?_
  refine lv_iadd hx hb dL_law_286 ?_
  refine jg_top (y := nI (i + 1)) (nI_add i 1) ?_
  refine jg_sld (j := i + 1) hx hb hX hbl hbA hS (by omega) (by omega) dL_law_287 ?_
  refine lv_aload_n hx hb dL_law_288 rfl (lv_at hl 0 rfl) ?_
  refine lv_iload_n hx hb dL_law_289 rfl (lv_at hl 3 rfl) ?_
  refine lv_iconst (v := nI 2) hx hb dL_law_290 (by decide +kernel) ?_
  refine lv_iadd hx hb dL_law_291 ?_
  refine jg_top (y := nI (i + 2)) (nI_add i 2) ?_
  refine jg_sld (j := i + 2) hx hb hX hbl hbA hS (by omega) (by omega) dL_law_292 ?_
  refine vp_callSi (va_Run.run (va_runV (As := [.int (xs (i + 1)), .int (xs (i + 2))]) (rest := [.int (jg_qBetw mk (xs (i + 1)) (xs (i + 2)))]) ⟨hx, hb, hml, hown, hts⟩ (c_X1_between l dC dI g0 g1 e1 (nI x) mk hm (xs (i + 1)) (xs (i + 2))) (cwV 2 hts (lw_V q206 q207 q208 q14 q209) rfl rfl rfl (by decide +kernel) ⟨Nat.le_of_ble_eq_true rfl, Nat.le_of_ble_eq_true rfl⟩) (jg_preR (ci := 1) (q0 := 0) hK hP rfl rfl rfl (hP.sub [0, 1] rfl) (hK.sub [4] rfl)) rfl rfl hl.1 rfl (lv_room (Nat.le_of_ble_eq_true rfl)) dL_law_293 ⟨Nat.le_of_ble_eq_true rfl, Nat.le_of_ble_eq_true rfl⟩)) (fun r2 (e_r2 : r2 = jg_qBetw mk (xs (i + 1)) (xs (i + 2))) => ?_)
  subst e_r2
  refine lv_icmp_eq (tgt := 436) hx hb dL_law_296 (by decide) (fun c296 => ?_) (fun c296 => ?_)
  · exact k9 H locs ls ⟨x, mk, f, k2, s2, h0, h1, h2, h3, h4, g0, g1, d1, d2, d3, d4, e1, ⟨x0, hx0, hm, hf⟩, hK, hP.sub [2, 3, 4, 5, 6, 0, 1] rfl, hD.sub [2, 3, 4, 5, 6, 0, 1] (by decide) rfl, hS, lv_sub hl [0, 1, 2, 3] rfl⟩
  · exact absurd rfl c296
set_option maxHeartbeats 4000000 in
set_option maxRecDepth 100000 in
/-- the law: mixed -/
theorem jg_law_mixed {p : Program} {l : Launch} {e : Env} {s : State} {m : MethodId} {below : List Frame} {meth : Method} {c : Code} {dC : Nat → ClassId} {dI : Nat → Nat → Nat} {b L : Nat} {xs : Nat → Int32} (hL : L ≤ 256) (C0 : lw_At p s m meth c b L xs) (i : Nat) (hi : i + 4 ≤ L) (k9 : ∀ (H : Heap) (locs : List Loc) (ls : Array Slot), jg_LI dC dI s b i H locs ls → W p l e room_1 s m #[Value.ref b] below meth c H locs 7 2343 (lw_Z below #[Value.ref b] s) (F0 m 436 ls [])) (H : Heap) (locs : List Loc) (ls : Array Slot) (hI : jg_LI dC dI s b i H locs ls) : W p l e room_1 s m #[Value.ref b] below meth c H locs 7 2343 (lw_Z below #[Value.ref b] s) (F0 m 301 ls []) := by
  obtain ⟨hx, hb, hr, hml, hown, hts0, hX, hbl, hlocks, hgv⟩ := C0
  have hts : ∀ w ∈ lw_all, w.before #[Value.ref b] s = true := fun w h => hts0 w (lw_all_tbl h)
  have hA : ∀ q : Nat, s.heap.size ≤ q → (fun q : Nat => s.heap.size ≤ q) q := fun _ h => h
  have hbA : ¬ (fun q : Nat => s.heap.size ≤ q) b := Nat.not_le.mpr hbl
  obtain ⟨x, mk, f, ks, st, h0, h1, h2, h3, h4, g0, g1, d1, d2, d3, d4, e1, ⟨x0, hx0, hm, hf⟩, hK, hP, hD, hS, hl⟩ := hI
  refine lv_aload_n hx hb dL_law_301 rfl (lv_at hl 1 rfl) ?_
  refine lv_aload_n hx hb dL_law_302 rfl (lv_at hl 0 rfl) ?_
  refine lv_iload_n hx hb dL_law_303 rfl (lv_at hl 3 rfl) ?_
  refine lv_iconst (v := nI 1) hx hb dL_law_304 (by decide +kernel) ?_
  refine lv_iadd hx hb dL_law_305 ?_
  refine jg_top (y := nI (i + 1)) (nI_add i 1) ?_
  refine jg_sld (j := i + 1) hx hb hX hbl hbA hS (by omega) (by omega) dL_law_306 ?_
  refine vp_callSi (va_Run.run (va_runV (As := [.int (xs (i + 1))]) (rest := []) ⟨hx, hb, hml, hown, hts⟩ (c_X0_mixed l dC dI h0 h1 h2 h3 h4 d2 x hx0 f hf (xs (i + 1))) (cwV 1 hts (lw_V q110 q111 q112 q13 q113) rfl rfl rfl (by decide +kernel) ⟨Nat.le_of_ble_eq_true rfl, Nat.le_of_ble_eq_true rfl⟩) (jg_preR (ci := 0) (q0 := 0) hK hP rfl rfl rfl (hP.sub [0, 2] rfl) (hK.sub [1] rfl)) rfl rfl hl.1 rfl (lv_room (Nat.le_of_ble_eq_true rfl)) dL_law_307 ⟨Nat.le_of_ble_eq_true rfl, Nat.le_of_ble_eq_true rfl⟩)) (fun r1 (e_r1 : r1 = jg_qMix x (xs (i + 1))) => ?_)
  subst e_r1
  refine lv_aload_n hx hb dL_law_310 rfl (lv_at hl 2 rfl) ?_
  refine lv_aload_n hx hb dL_law_311 rfl (lv_at hl 0 rfl) ?_
  refine lv_iload_n hx hb dL_law_312 rfl (lv_at hl 3 rfl) ?_
  refine lv_iconst (v := nI 1) hx hb dL_law_313 (by decide +kernel) ?_
  refine lv_iadd hx hb dL_law_314 ?_
  refine jg_top (y := nI (i + 1)) (nI_add i 1) ?_
  refine jg_sld (j := i + 1) hx hb hX hbl hbA hS (by omega) (by omega) dL_law_315 ?_
  refine vp_callSi (va_Run.run (va_runV (As := [.int (xs (i + 1))]) (rest := [.int (jg_qMix x (xs (i + 1)))]) ⟨hx, hb, hml, hown, hts⟩ (c_X1_mixed l dC dI g0 g1 x hx0 (xs (i + 1))) (cwV 1 hts (lw_V q210 q211 q212 q14 q213) rfl rfl rfl (by decide +kernel) ⟨Nat.le_of_ble_eq_true rfl, Nat.le_of_ble_eq_true rfl⟩) (jg_preR (ci := 1) (q0 := 5) hK hP rfl rfl rfl (hP.sub [5] rfl) (hK.sub [] rfl)) rfl rfl hl.1 rfl (lv_room (Nat.le_of_ble_eq_true rfl)) dL_law_316 ⟨Nat.le_of_ble_eq_true rfl, Nat.le_of_ble_eq_true rfl⟩)) (fun r2 (e_r2 : r2 = jg_qMix x (xs (i + 1))) => ?_)
  subst e_r2
  refine lv_icmp_eq (tgt := 436) hx hb dL_law_319 (by decide) (fun c319 => ?_) (fun c319 => ?_)
  · exact k9 H locs ls ⟨x, mk, f, ks, st, h0, h1, h2, h3, h4, g0, g1, d1, d2, d3, d4, e1, ⟨x0, hx0, hm, hf⟩, hK, hP.sub [0, 1, 2, 3, 4, 5, 6] rfl, hD.sub [0, 1, 2, 3, 4, 5, 6] (by decide) rfl, hS, lv_sub hl [0, 1, 2, 3] rfl⟩
  · exact absurd rfl c319
set_option maxHeartbeats 4000000 in
set_option maxRecDepth 100000 in
/-- the law: period -/
theorem jg_law_period {p : Program} {l : Launch} {e : Env} {s : State} {m : MethodId} {below : List Frame} {meth : Method} {c : Code} {dC : Nat → ClassId} {dI : Nat → Nat → Nat} {b L : Nat} {xs : Nat → Int32} (hL : L ≤ 256) (C0 : lw_At p s m meth c b L xs) (i : Nat) (hi : i + 4 ≤ L) (k9 : ∀ (H : Heap) (locs : List Loc) (ls : Array Slot), jg_LI dC dI s b i H locs ls → W p l e room_1 s m #[Value.ref b] below meth c H locs 7 2343 (lw_Z below #[Value.ref b] s) (F0 m 436 ls [])) (H : Heap) (locs : List Loc) (ls : Array Slot) (hI : jg_LI dC dI s b i H locs ls) : W p l e room_1 s m #[Value.ref b] below meth c H locs 7 2343 (lw_Z below #[Value.ref b] s) (F0 m 324 ls []) := by
  obtain ⟨hx, hb, hr, hml, hown, hts0, hX, hbl, hlocks, hgv⟩ := C0
  have hts : ∀ w ∈ lw_all, w.before #[Value.ref b] s = true := fun w h => hts0 w (lw_all_tbl h)
  have hA : ∀ q : Nat, s.heap.size ≤ q → (fun q : Nat => s.heap.size ≤ q) q := fun _ h => h
  have hbA : ¬ (fun q : Nat => s.heap.size ≤ q) b := Nat.not_le.mpr hbl
  obtain ⟨x, mk, f, ks, st, h0, h1, h2, h3, h4, g0, g1, d1, d2, d3, d4, e1, ⟨x0, hx0, hm, hf⟩, hK, hP, hD, hS, hl⟩ := hI
  refine lv_aload_n hx hb dL_law_324 rfl (lv_at hl 1 rfl) ?_
  refine vp_callSi (va_Run.run (va_runV (As := []) (rest := []) ⟨hx, hb, hml, hown, hts⟩ (c_X0_period l dC dI h0 h1 h2 h3 h4 d2 x hx0 f hf x0) (cwV 0 hts (lw_V q114 q115 q116 q13 q117) rfl rfl rfl (by decide +kernel) ⟨Nat.le_of_ble_eq_true rfl, Nat.le_of_ble_eq_true rfl⟩) (jg_preR (ci := 0) (q0 := 0) hK hP rfl rfl rfl (hP.sub [0, 2] rfl) (hK.sub [1] rfl)) rfl rfl hl.1 rfl (lv_room (Nat.le_of_ble_eq_true rfl)) dL_law_325 ⟨Nat.le_of_ble_eq_true rfl, Nat.le_of_ble_eq_true rfl⟩)) (fun r1 (e_r1 : r1 = 65535) => ?_)
  subst e_r1
  refine lv_aload_n hx hb dL_law_328 rfl (lv_at hl 2 rfl) ?_
  refine vp_callSi (va_Run.run (va_runV (As := []) (rest := [.int 65535]) ⟨hx, hb, hml, hown, hts⟩ (c_X1_period l dC dI g0 g1 x x0 hx0) (cwV 0 hts (lw_V q214 q215 q216 q14 q217) rfl rfl rfl (by decide +kernel) ⟨Nat.le_of_ble_eq_true rfl, Nat.le_of_ble_eq_true rfl⟩) (jg_preR (ci := 1) (q0 := 5) hK hP rfl rfl rfl (hP.sub [5] rfl) (hK.sub [] rfl)) rfl rfl hl.1 rfl (lv_room (Nat.le_of_ble_eq_true rfl)) dL_law_329 ⟨Nat.le_of_ble_eq_true rfl, Nat.le_of_ble_eq_true rfl⟩)) (fun r2 (e_r2 : r2 = 65535) => ?_)
  subst e_r2
  refine lv_icmp_eq (tgt := 436) hx hb dL_law_332 (by decide) (fun c332 => ?_) (fun c332 => ?_)
  · exact k9 H locs ls ⟨x, mk, f, ks, st, h0, h1, h2, h3, h4, g0, g1, d1, d2, d3, d4, e1, ⟨x0, hx0, hm, hf⟩, hK, hP.sub [0, 1, 2, 3, 4, 5, 6] rfl, hD.sub [0, 1, 2, 3, 4, 5, 6] (by decide) rfl, hS, lv_sub hl [0, 1, 2, 3] rfl⟩
  · exact absurd rfl c332
set_option maxHeartbeats 4000000 in
set_option maxRecDepth 100000 in
/-- the law: before -/
theorem jg_law_before {p : Program} {l : Launch} {e : Env} {s : State} {m : MethodId} {below : List Frame} {meth : Method} {c : Code} {dC : Nat → ClassId} {dI : Nat → Nat → Nat} {b L : Nat} {xs : Nat → Int32} (hL : L ≤ 256) (C0 : lw_At p s m meth c b L xs) (i : Nat) (hi : i + 4 ≤ L) (k9 : ∀ (H : Heap) (locs : List Loc) (ls : Array Slot), jg_LI dC dI s b i H locs ls → W p l e room_1 s m #[Value.ref b] below meth c H locs 7 2343 (lw_Z below #[Value.ref b] s) (F0 m 436 ls [])) (H : Heap) (locs : List Loc) (ls : Array Slot) (hI : jg_LI dC dI s b i H locs ls) : W p l e room_1 s m #[Value.ref b] below meth c H locs 7 2343 (lw_Z below #[Value.ref b] s) (F0 m 337 ls []) := by
  obtain ⟨hx, hb, hr, hml, hown, hts0, hX, hbl, hlocks, hgv⟩ := C0
  have hts : ∀ w ∈ lw_all, w.before #[Value.ref b] s = true := fun w h => hts0 w (lw_all_tbl h)
  have hA : ∀ q : Nat, s.heap.size ≤ q → (fun q : Nat => s.heap.size ≤ q) q := fun _ h => h
  have hbA : ¬ (fun q : Nat => s.heap.size ≤ q) b := Nat.not_le.mpr hbl
  obtain ⟨x, mk, f, ks, st, h0, h1, h2, h3, h4, g0, g1, d1, d2, d3, d4, e1, ⟨x0, hx0, hm, hf⟩, hK, hP, hD, hS, hl⟩ := hI
  refine lv_aload_n hx hb dL_law_337 rfl (lv_at hl 1 rfl) ?_
  refine lv_aload_n hx hb dL_law_338 rfl (lv_at hl 0 rfl) ?_
  refine lv_iload_n hx hb dL_law_339 rfl (lv_at hl 3 rfl) ?_
  refine lv_iconst (v := nI 1) hx hb dL_law_340 (by decide +kernel) ?_
  refine lv_iadd hx hb dL_law_341 ?_
  refine jg_top (y := nI (i + 1)) (nI_add i 1) ?_
  refine jg_sld (j := i + 1) hx hb hX hbl hbA hS (by omega) (by omega) dL_law_342 ?_
  refine lv_aload_n hx hb dL_law_343 rfl (lv_at hl 0 rfl) ?_
  refine lv_iload_n hx hb dL_law_344 rfl (lv_at hl 3 rfl) ?_
  refine lv_iconst (v := nI 2) hx hb dL_law_345 (by decide +kernel) ?_
  refine lv_iadd hx hb dL_law_346 ?_
  refine jg_top (y := nI (i + 2)) (nI_add i 2) ?_
  refine jg_sld (j := i + 2) hx hb hX hbl hbA hS (by omega) (by omega) dL_law_347 ?_
  refine vp_callSi (va_Run.run (va_runV (As := [.int (xs (i + 1)), .int (xs (i + 2))]) (rest := []) ⟨hx, hb, hml, hown, hts⟩ (c_X0_before l dC dI h0 h1 h2 h3 h4 d2 x hx0 f hf (xs (i + 1)) (xs (i + 2))) (cwV 2 hts (lw_V q118 q119 q120 q13 q121) rfl rfl rfl (by decide +kernel) ⟨Nat.le_of_ble_eq_true rfl, Nat.le_of_ble_eq_true rfl⟩) (jg_preR (ci := 0) (q0 := 0) hK hP rfl rfl rfl (hP.sub [0, 2] rfl) (hK.sub [1] rfl)) rfl rfl hl.1 rfl (lv_room (Nat.le_of_ble_eq_true rfl)) dL_law_348 ⟨Nat.le_of_ble_eq_true rfl, Nat.le_of_ble_eq_true rfl⟩)) (fun r1 (e_r1 : r1 = jg_qBef (xs (i + 1)) (xs (i + 2))) => ?_)
  subst e_r1
  refine lv_aload_n hx hb dL_law_351 rfl (lv_at hl 2 rfl) ?_
  refine lv_aload_n hx hb dL_law_352 rfl (lv_at hl 0 rfl) ?_
  refine lv_iload_n hx hb dL_law_353 rfl (lv_at hl 3 rfl) ?_
  refine lv_iconst (v := nI 1) hx hb dL_law_354 (by decide +kernel) ?_
  refine lv_iadd hx hb dL_law_355 ?_
  refine jg_top (y := nI (i + 1)) (nI_add i 1) ?_
  refine jg_sld (j := i + 1) hx hb hX hbl hbA hS (by omega) (by omega) dL_law_356 ?_
  refine lv_aload_n hx hb dL_law_357 rfl (lv_at hl 0 rfl) ?_
  refine lv_iload_n hx hb dL_law_358 rfl (lv_at hl 3 rfl) ?_
  refine lv_iconst (v := nI 2) hx hb dL_law_359 (by decide +kernel) ?_
  refine lv_iadd hx hb dL_law_360 ?_
  refine jg_top (y := nI (i + 2)) (nI_add i 2) ?_
  refine jg_sld (j := i + 2) hx hb hX hbl hbA hS (by omega) (by omega) dL_law_361 ?_
  refine vp_callSi (va_Run.run (va_runV (As := [.int (xs (i + 1)), .int (xs (i + 2))]) (rest := [.int (jg_qBef (xs (i + 1)) (xs (i + 2)))]) ⟨hx, hb, hml, hown, hts⟩ (c_X1_before l dC dI g0 g1 (nI x) (xs (i + 1)) (xs (i + 2))) (cwV 2 hts (lw_V q218 q219 q220 q14 q221) rfl rfl rfl (by decide +kernel) ⟨Nat.le_of_ble_eq_true rfl, Nat.le_of_ble_eq_true rfl⟩) (jg_preR (ci := 1) (q0 := 5) hK hP rfl rfl rfl (hP.sub [5] rfl) (hK.sub [] rfl)) rfl rfl hl.1 rfl (lv_room (Nat.le_of_ble_eq_true rfl)) dL_law_362 ⟨Nat.le_of_ble_eq_true rfl, Nat.le_of_ble_eq_true rfl⟩)) (fun r2 (e_r2 : r2 = jg_qBef (xs (i + 1)) (xs (i + 2))) => ?_)
  subst e_r2
  refine lv_icmp_eq (tgt := 436) hx hb dL_law_365 (by decide) (fun c365 => ?_) (fun c365 => ?_)
  · exact k9 H locs ls ⟨x, mk, f, ks, st, h0, h1, h2, h3, h4, g0, g1, d1, d2, d3, d4, e1, ⟨x0, hx0, hm, hf⟩, hK, hP.sub [0, 1, 2, 3, 4, 5, 6] rfl, hD.sub [0, 1, 2, 3, 4, 5, 6] (by decide) rfl, hS, lv_sub hl [0, 1, 2, 3] rfl⟩
  · exact absurd rfl c365
set_option maxHeartbeats 4000000 in
set_option maxRecDepth 100000 in
/-- the law: apart -/
theorem jg_law_apart {p : Program} {l : Launch} {e : Env} {s : State} {m : MethodId} {below : List Frame} {meth : Method} {c : Code} {dC : Nat → ClassId} {dI : Nat → Nat → Nat} {b L : Nat} {xs : Nat → Int32} (hL : L ≤ 256) (C0 : lw_At p s m meth c b L xs) (i : Nat) (hi : i + 4 ≤ L) (k9 : ∀ (H : Heap) (locs : List Loc) (ls : Array Slot), jg_LI dC dI s b i H locs ls → W p l e room_1 s m #[Value.ref b] below meth c H locs 7 2343 (lw_Z below #[Value.ref b] s) (F0 m 436 ls [])) (H : Heap) (locs : List Loc) (ls : Array Slot) (hI : jg_LI dC dI s b i H locs ls) : W p l e room_1 s m #[Value.ref b] below meth c H locs 7 2343 (lw_Z below #[Value.ref b] s) (F0 m 370 ls []) := by
  obtain ⟨hx, hb, hr, hml, hown, hts0, hX, hbl, hlocks, hgv⟩ := C0
  have hts : ∀ w ∈ lw_all, w.before #[Value.ref b] s = true := fun w h => hts0 w (lw_all_tbl h)
  have hA : ∀ q : Nat, s.heap.size ≤ q → (fun q : Nat => s.heap.size ≤ q) q := fun _ h => h
  have hbA : ¬ (fun q : Nat => s.heap.size ≤ q) b := Nat.not_le.mpr hbl
  obtain ⟨x, mk, f, ks, st, h0, h1, h2, h3, h4, g0, g1, d1, d2, d3, d4, e1, ⟨x0, hx0, hm, hf⟩, hK, hP, hD, hS, hl⟩ := hI
  refine lv_aload_n hx hb dL_law_370 rfl (lv_at hl 1 rfl) ?_
  refine lv_aload_n hx hb dL_law_371 rfl (lv_at hl 0 rfl) ?_
  refine lv_iload_n hx hb dL_law_372 rfl (lv_at hl 3 rfl) ?_
  refine lv_iconst (v := nI 1) hx hb dL_law_373 (by decide +kernel) ?_
  refine lv_iadd hx hb dL_law_374 ?_
  refine jg_top (y := nI (i + 1)) (nI_add i 1) ?_
  refine jg_sld (j := i + 1) hx hb hX hbl hbA hS (by omega) (by omega) dL_law_375 ?_
  refine lv_aload_n hx hb dL_law_376 rfl (lv_at hl 0 rfl) ?_
  refine lv_iload_n hx hb dL_law_377 rfl (lv_at hl 3 rfl) ?_
  refine lv_iconst (v := nI 2) hx hb dL_law_378 (by decide +kernel) ?_
  refine lv_iadd hx hb dL_law_379 ?_
  refine jg_top (y := nI (i + 2)) (nI_add i 2) ?_
  refine jg_sld (j := i + 2) hx hb hX hbl hbA hS (by omega) (by omega) dL_law_380 ?_
  refine lv_aload_n hx hb dL_law_381 rfl (lv_at hl 0 rfl) ?_
  refine lv_iload_n hx hb dL_law_382 rfl (lv_at hl 3 rfl) ?_
  refine lv_iconst (v := nI 3) hx hb dL_law_383 (by decide +kernel) ?_
  refine lv_iadd hx hb dL_law_384 ?_
  refine jg_top (y := nI (i + 3)) (nI_add i 3) ?_
  refine jg_sld (j := i + 3) hx hb hX hbl hbA hS (by omega) (by omega) dL_law_385 ?_
  refine vp_callSi (va_Run.run (va_runV (As := [.int (xs (i + 1)), .int (xs (i + 2)), .int (xs (i + 3))]) (rest := []) ⟨hx, hb, hml, hown, hts⟩ (c_X0_apart l dC dI h0 h1 h2 h3 h4 d2 x hx0 f hf (xs (i + 1)) (xs (i + 2)) (xs (i + 3))) (cwV 3 hts (lw_V q122 q123 q124 q13 q125) rfl rfl rfl (by decide +kernel) ⟨Nat.le_of_ble_eq_true rfl, Nat.le_of_ble_eq_true rfl⟩) (jg_preR (ci := 0) (q0 := 0) hK hP rfl rfl rfl (hP.sub [0, 2] rfl) (hK.sub [1] rfl)) rfl rfl hl.1 rfl (lv_room (Nat.le_of_ble_eq_true rfl)) dL_law_386 ⟨Nat.le_of_ble_eq_true rfl, Nat.le_of_ble_eq_true rfl⟩)) (fun r1 (e_r1 : r1 = jg_qApart (xs (i + 1)) (xs (i + 2)) (xs (i + 3))) => ?_)
  subst e_r1
  refine lv_aload_n hx hb dL_law_389 rfl (lv_at hl 2 rfl) ?_
  refine lv_aload_n hx hb dL_law_390 rfl (lv_at hl 0 rfl) ?_
  refine lv_iload_n hx hb dL_law_391 rfl (lv_at hl 3 rfl) ?_
  refine lv_iconst (v := nI 1) hx hb dL_law_392 (by decide +kernel) ?_
  refine lv_iadd hx hb dL_law_393 ?_
  refine jg_top (y := nI (i + 1)) (nI_add i 1) ?_
  refine jg_sld (j := i + 1) hx hb hX hbl hbA hS (by omega) (by omega) dL_law_394 ?_
  refine lv_aload_n hx hb dL_law_395 rfl (lv_at hl 0 rfl) ?_
  refine lv_iload_n hx hb dL_law_396 rfl (lv_at hl 3 rfl) ?_
  refine lv_iconst (v := nI 2) hx hb dL_law_397 (by decide +kernel) ?_
  refine lv_iadd hx hb dL_law_398 ?_
  refine jg_top (y := nI (i + 2)) (nI_add i 2) ?_
  refine jg_sld (j := i + 2) hx hb hX hbl hbA hS (by omega) (by omega) dL_law_399 ?_
  refine lv_aload_n hx hb dL_law_400 rfl (lv_at hl 0 rfl) ?_
  refine lv_iload_n hx hb dL_law_401 rfl (lv_at hl 3 rfl) ?_
  refine lv_iconst (v := nI 3) hx hb dL_law_402 (by decide +kernel) ?_
  refine lv_iadd hx hb dL_law_403 ?_
  refine jg_top (y := nI (i + 3)) (nI_add i 3) ?_
  refine jg_sld (j := i + 3) hx hb hX hbl hbA hS (by omega) (by omega) dL_law_404 ?_
  refine vp_callSi (va_Run.run (va_runV (As := [.int (xs (i + 1)), .int (xs (i + 2)), .int (xs (i + 3))]) (rest := [.int (jg_qApart (xs (i + 1)) (xs (i + 2)) (xs (i + 3)))]) ⟨hx, hb, hml, hown, hts⟩ (c_X1_apart l dC dI g0 g1 (nI x) (xs (i + 1)) (xs (i + 2)) (xs (i + 3))) (cwV 3 hts (lw_V q222 q223 q224 q14 q225) rfl rfl rfl (by decide +kernel) ⟨Nat.le_of_ble_eq_true rfl, Nat.le_of_ble_eq_true rfl⟩) (jg_preR (ci := 1) (q0 := 5) hK hP rfl rfl rfl (hP.sub [5] rfl) (hK.sub [] rfl)) rfl rfl hl.1 rfl (lv_room (Nat.le_of_ble_eq_true rfl)) dL_law_405 ⟨Nat.le_of_ble_eq_true rfl, Nat.le_of_ble_eq_true rfl⟩)) (fun r2 (e_r2 : r2 = jg_qApart (xs (i + 1)) (xs (i + 2)) (xs (i + 3))) => ?_)
  subst e_r2
  refine lv_icmp_eq (tgt := 436) hx hb dL_law_408 (by decide) (fun c408 => ?_) (fun c408 => ?_)
  · exact k9 H locs ls ⟨x, mk, f, ks, st, h0, h1, h2, h3, h4, g0, g1, d1, d2, d3, d4, e1, ⟨x0, hx0, hm, hf⟩, hK, hP.sub [0, 1, 2, 3, 4, 5, 6] rfl, hD.sub [0, 1, 2, 3, 4, 5, 6] (by decide) rfl, hS, lv_sub hl [0, 1, 2, 3] rfl⟩
  · exact absurd rfl c408
set_option maxHeartbeats 4000000 in
set_option maxRecDepth 100000 in
/-- the law: nextRound -/
theorem jg_law_nextRound {p : Program} {l : Launch} {e : Env} {s : State} {m : MethodId} {below : List Frame} {meth : Method} {c : Code} {dC : Nat → ClassId} {dI : Nat → Nat → Nat} {b L : Nat} {xs : Nat → Int32} (hL : L ≤ 256) (C0 : lw_At p s m meth c b L xs) (i : Nat) (hi : i + 4 ≤ L) (k9 : ∀ (H : Heap) (locs : List Loc) (ls : Array Slot), jg_LI dC dI s b i H locs ls → W p l e room_1 s m #[Value.ref b] below meth c H locs 7 2343 (lw_Z below #[Value.ref b] s) (F0 m 436 ls [])) (H : Heap) (locs : List Loc) (ls : Array Slot) (hI : jg_LI dC dI s b i H locs ls) : W p l e room_1 s m #[Value.ref b] below meth c H locs 7 2343 (lw_Z below #[Value.ref b] s) (F0 m 413 ls []) := by
  obtain ⟨hx, hb, hr, hml, hown, hts0, hX, hbl, hlocks, hgv⟩ := C0
  have hts : ∀ w ∈ lw_all, w.before #[Value.ref b] s = true := fun w h => hts0 w (lw_all_tbl h)
  have hA : ∀ q : Nat, s.heap.size ≤ q → (fun q : Nat => s.heap.size ≤ q) q := fun _ h => h
  have hbA : ¬ (fun q : Nat => s.heap.size ≤ q) b := Nat.not_le.mpr hbl
  obtain ⟨x, mk, f, ks, st, h0, h1, h2, h3, h4, g0, g1, d1, d2, d3, d4, e1, ⟨x0, hx0, hm, hf⟩, hK, hP, hD, hS, hl⟩ := hI
  refine lv_aload_n hx hb dL_law_413 rfl (lv_at hl 1 rfl) ?_
  refine lv_aload_n hx hb dL_law_414 rfl (lv_at hl 0 rfl) ?_
  refine lv_iload_n hx hb dL_law_415 rfl (lv_at hl 3 rfl) ?_
  refine lv_iconst (v := nI 1) hx hb dL_law_416 (by decide +kernel) ?_
  refine lv_iadd hx hb dL_law_417 ?_
  refine jg_top (y := nI (i + 1)) (nI_add i 1) ?_
  refine jg_sld (j := i + 1) hx hb hX hbl hbA hS (by omega) (by omega) dL_law_418 ?_
  refine vp_callSi (va_Run.run (va_runV (As := [.int (xs (i + 1))]) (rest := []) ⟨hx, hb, hml, hown, hts⟩ (c_X0_nextRound l dC dI h0 h1 h2 h3 h4 x x0 hx0 (xs (i + 1))) (cwV 1 hts (lw_V q126 q127 q128 q13 q129) rfl rfl rfl (by decide +kernel) ⟨Nat.le_of_ble_eq_true rfl, Nat.le_of_ble_eq_true rfl⟩) (jg_preR (ci := 0) (q0 := 0) hK hP rfl rfl rfl (hP.sub [0] rfl) (hK.sub [] rfl)) rfl rfl hl.1 rfl (lv_room (Nat.le_of_ble_eq_true rfl)) dL_law_419 ⟨Nat.le_of_ble_eq_true rfl, Nat.le_of_ble_eq_true rfl⟩)) (fun r1 (e_r1 : r1 = jg_qNext x (xs (i + 1))) => ?_)
  subst e_r1
  refine lv_aload_n hx hb dL_law_422 rfl (lv_at hl 2 rfl) ?_
  refine lv_aload_n hx hb dL_law_423 rfl (lv_at hl 0 rfl) ?_
  refine lv_iload_n hx hb dL_law_424 rfl (lv_at hl 3 rfl) ?_
  refine lv_iconst (v := nI 1) hx hb dL_law_425 (by decide +kernel) ?_
  refine lv_iadd hx hb dL_law_426 ?_
  refine jg_top (y := nI (i + 1)) (nI_add i 1) ?_
  refine jg_sld (j := i + 1) hx hb hX hbl hbA hS (by omega) (by omega) dL_law_427 ?_
  refine vp_callSi (va_Run.run (va_runV (As := [.int (xs (i + 1))]) (rest := [.int (jg_qNext x (xs (i + 1)))]) ⟨hx, hb, hml, hown, hts⟩ (c_X1_nextRound l dC dI g0 g1 x x0 hx0 (xs (i + 1))) (cwV 1 hts (lw_V q226 q227 q228 q14 q229) rfl rfl rfl (by decide +kernel) ⟨Nat.le_of_ble_eq_true rfl, Nat.le_of_ble_eq_true rfl⟩) (jg_preR (ci := 1) (q0 := 5) hK hP rfl rfl rfl (hP.sub [5] rfl) (hK.sub [] rfl)) rfl rfl hl.1 rfl (lv_room (Nat.le_of_ble_eq_true rfl)) dL_law_428 ⟨Nat.le_of_ble_eq_true rfl, Nat.le_of_ble_eq_true rfl⟩)) (fun r2 (e_r2 : r2 = jg_qNext x (xs (i + 1))) => ?_)
  subst e_r2
  refine lv_icmp_eq (tgt := 436) hx hb dL_law_431 (by decide) (fun c431 => ?_) (fun c431 => ?_)
  · exact k9 H locs ls ⟨x, mk, f, ks, st, h0, h1, h2, h3, h4, g0, g1, d1, d2, d3, d4, e1, ⟨x0, hx0, hm, hf⟩, hK, hP.sub [0, 1, 2, 3, 4, 5, 6] rfl, hD.sub [0, 1, 2, 3, 4, 5, 6] (by decide) rfl, hS, lv_sub hl [0, 1, 2, 3] rfl⟩
  · exact absurd rfl c431
end
section
set_option maxHeartbeats 4000000 in
set_option maxRecDepth 100000 in
/-- the law's loop -/
theorem jg_law_loop {p : Program} {l : Launch} {e : Env} {s : State} {m : MethodId} {below : List Frame} {meth : Method} {c : Code} {dC : Nat → ClassId} {dI : Nat → Nat → Nat} {b L : Nat} {xs : Nat → Int32} (hL : L ≤ 256) (C0 : lw_At p s m meth c b L xs) (H : Heap) (locs : List Loc) (ls : Array Slot) (hI : jg_LI dC dI s b 0 H locs ls) : W p l e room_1 s m #[Value.ref b] below meth c H locs 7 2343 (lw_Z below #[Value.ref b] s) (F0 m 18 ls []) := by
  obtain ⟨hx, hb, hr, hml, hown, hts0, hX, hbl, hlocks, hgv⟩ := id C0
  have hbA : ¬ (fun q : Nat => s.heap.size ≤ q) b := Nat.not_le.mpr hbl
  refine jg_loopH (fun i H locs ls => i ≤ L ∧ jg_LI dC dI s b i H locs ls) (fun i => L - i) ?_ 0 ls ⟨by omega, hI⟩
  intro i H locs ls hJ ih
  obtain ⟨hi, hJ⟩ := hJ
  obtain ⟨x, mk, f, ks, st, h0, h1, h2, h3, h4, g0, g1, d1, d2, d3, d4, e1, hx9, hK, hP, hD, hS, hl⟩ := id hJ
  refine lv_iload_n hx hb dL_law_18 rfl (lv_at hl 3 rfl) ?_
  refine lv_aload_n hx hb dL_law_19 rfl (lv_at hl 0 rfl) ?_
  refine va_slen hx hb hX hbl hbA hS dL_law_20 ?_
  refine lv_iconst (v := nI 4) hx hb dL_law_21 (by decide +kernel) ?_
  refine lv_isub hx hb dL_law_22 ?_
  refine lv_icmp_gt (tgt := 442) hx hb dL_law_23 (by decide) (fun c23 => ?_) (fun c23 => ?_)
  · refine lv_iconst (v := 1) hx hb dL_law_442 (by decide) ?_
    refine va_forget (fun q hq => hS.2.2 q hq) ?_
    refine W.widen (k := 600000) (n := 7290000) (by omega) (by omega) ?_
    exact lw_ret hx hb hr hlocks dL_law_443
  · have hi4 : i + 4 ≤ L := by
      have q : ¬ (nI L - nI 4) < nI i := c23
      rw [Int32.lt_iff_toInt_lt, pk_sub_toInt (by omega) (by omega), nI_toInt (by omega)] at q
      omega
    have k9 : ∀ (H : Heap) (locs : List Loc) (ls : Array Slot), jg_LI dC dI s b i H locs ls → W p l e room_1 s m #[Value.ref b] below meth c H locs 7 2343 (lw_Z below #[Value.ref b] s) (F0 m 436 ls []) := by
      intro H locs ls hJ
      obtain ⟨x, mk, f, ks, st, h0, h1, h2, h3, h4, g0, g1, d1, d2, d3, d4, e1, hx9, hK, hP, hD, hS, hl⟩ := hJ
      refine lv_iinc (v := nI (i + 4)) (lv' := [(3, .int (nI (i + 4))), (0, .ref b), (1, .ref h0), (2, .ref g0)]) hx hb dL_law_436 hl (k := 3) rfl (nI_add i 4) (by decide) rfl (fun ls hl => ?_)
      refine lv_goto (tgt := 18) hx hb dL_law_439 (by decide) ?_
      exact ih (i + 4) H locs ls (by omega) ⟨hi4, x, mk, f, ks, st, h0, h1, h2, h3, h4, g0, g1, d1, d2, d3, d4, e1, hx9, hK, hP, hD, hS, lv_sub hl [1, 2, 3, 0] rfl⟩
    refine lv_aload_n hx hb dL_law_26 rfl (lv_at hl 0 rfl) ?_
    refine lv_iload_n hx hb dL_law_27 rfl (lv_at hl 3 rfl) ?_
    refine jg_sld (j := i) hx hb hX hbl hbA hS (by omega) (by omega) dL_law_28 ?_
    refine lv_bipush (v := nI 15) hx hb dL_law_29 (by decide +kernel) ?_
    refine lv_iand hx hb dL_law_31 ?_
    obtain ⟨j, hj, ej⟩ := pk_andE (xs i) (m := nI 15) 4 (by decide +kernel)
    refine jg_top (y := nI j) ej ?_
    rcases (show j = 0 ∨ j = 1 ∨ j = 2 ∨ j = 3 ∨ j = 4 ∨ j = 5 ∨ j = 6 ∨ j = 7 ∨ j = 8 ∨ j = 9 ∨ j = 10 ∨ j = 11 ∨ j = 12 ∨ j = 13 ∨ j = 14 ∨ j = 15 by omega) with rfl | rfl | rfl | rfl | rfl | rfl | rfl | rfl | rfl | rfl | rfl | rfl | rfl | rfl | rfl | rfl
    · refine lv_tableIn (off := 72) (tgt := 104) hx hb dL_law_32 (by decide +kernel) (by decide +kernel) (by decide +kernel) (by decide) ?_
      exact jg_law_seed hL C0 i hi4 k9 H locs ls hJ
    · refine lv_tableIn (off := 95) (tgt := 127) hx hb dL_law_32 (by decide +kernel) (by decide +kernel) (by decide +kernel) (by decide) ?_
      exact jg_law_state hL C0 i hi4 k9 H locs ls hJ
    · refine lv_tableIn (off := 108) (tgt := 140) hx hb dL_law_32 (by decide +kernel) (by decide +kernel) (by decide +kernel) (by decide) ?_
      exact jg_law_next hL C0 i hi4 k9 H locs ls hJ
    · refine lv_tableIn (off := 121) (tgt := 153) hx hb dL_law_32 (by decide +kernel) (by decide +kernel) (by decide +kernel) (by decide) ?_
      exact jg_law_jump hL C0 i hi4 k9 H locs ls hJ
    · refine lv_tableIn (off := 144) (tgt := 176) hx hb dL_law_32 (by decide +kernel) (by decide +kernel) (by decide +kernel) (by decide) ?_
      exact jg_law_peek hL C0 i hi4 k9 H locs ls hJ
    · refine lv_tableIn (off := 167) (tgt := 199) hx hb dL_law_32 (by decide +kernel) (by decide +kernel) (by decide +kernel) (by decide) ?_
      exact jg_law_mark hL C0 i hi4 k9 H locs ls hJ
    · refine lv_tableIn (off := 190) (tgt := 222) hx hb dL_law_32 (by decide +kernel) (by decide +kernel) (by decide +kernel) (by decide) ?_
      exact jg_law_back hL C0 i hi4 k9 H locs ls hJ
    · refine lv_tableIn (off := 213) (tgt := 245) hx hb dL_law_32 (by decide +kernel) (by decide +kernel) (by decide +kernel) (by decide) ?_
      exact jg_law_distance hL C0 i hi4 k9 H locs ls hJ
    · refine lv_tableIn (off := 236) (tgt := 268) hx hb dL_law_32 (by decide +kernel) (by decide +kernel) (by decide +kernel) (by decide) ?_
      exact jg_law_between hL C0 i hi4 k9 H locs ls hJ
    · refine lv_tableIn (off := 269) (tgt := 301) hx hb dL_law_32 (by decide +kernel) (by decide +kernel) (by decide +kernel) (by decide) ?_
      exact jg_law_mixed hL C0 i hi4 k9 H locs ls hJ
    · refine lv_tableIn (off := 292) (tgt := 324) hx hb dL_law_32 (by decide +kernel) (by decide +kernel) (by decide +kernel) (by decide) ?_
      exact jg_law_period hL C0 i hi4 k9 H locs ls hJ
    · refine lv_tableIn (off := 305) (tgt := 337) hx hb dL_law_32 (by decide +kernel) (by decide +kernel) (by decide +kernel) (by decide) ?_
      exact jg_law_before hL C0 i hi4 k9 H locs ls hJ
    · refine lv_tableIn (off := 338) (tgt := 370) hx hb dL_law_32 (by decide +kernel) (by decide +kernel) (by decide +kernel) (by decide) ?_
      exact jg_law_apart hL C0 i hi4 k9 H locs ls hJ
    · refine lv_tableIn (off := 381) (tgt := 413) hx hb dL_law_32 (by decide +kernel) (by decide +kernel) (by decide +kernel) (by decide) ?_
      exact jg_law_nextRound hL C0 i hi4 k9 H locs ls hJ
    · refine lv_tableOut (tgt := 436) hx hb dL_law_32 (by decide +kernel) (by decide) ?_
      exact k9 H locs ls hJ
    · refine lv_tableOut (tgt := 436) hx hb dL_law_32 (by decide +kernel) (by decide) ?_
      exact k9 H locs ls hJ
set_option maxHeartbeats 4000000 in
set_option maxRecDepth 100000 in
/-- YOUR PART: from the entry, for every script of at most 256 ints, the law comes to its end with true -/
theorem whole_start {p : Program} {e : Env} {s : State} {m : MethodId} {below : List Frame} {meth : Method} {c : Code} (l : Launch) {b L : Nat} {xs : Nat → Int32} (hL : L ≤ 256) (C0 : lw_At p s m meth c b L xs) : W p l e room_1 s m #[Value.ref b] below meth c s.heap [] 0 0 (lw_Z below #[Value.ref b] s) (entryFrame m ([Value.ref b] : List Value).toArray 4) := by
  obtain ⟨hx, hb, hr, hml, hown, hts0, hX, hbl, hlocks, hgv⟩ := id C0
  have hts : ∀ w ∈ lw_all, w.before #[Value.ref b] s = true := fun w h => hts0 w (lw_all_tbl h)
  have hA : ∀ q : Nat, s.heap.size ≤ q → (fun q : Nat => s.heap.size ≤ q) q := fun _ h => h
  obtain ⟨c0_, iS0, hKn0⟩ := u_known (C := RX0) (T := TX0) (N := 5) (n := 5) hts in_X0 (hts _ q16)
  obtain ⟨c1_, iS1, hKn1⟩ := u_known (C := RX1) (T := TX1) (N := 2) (n := 2) hts in_X1 (hts _ q131)
  obtain ⟨dC, dI, hKc⟩ : ∃ (dC : Nat → ClassId) (dI : Nat → Nat → Nat), ∀ (k : Nat) (q : vw_C), vwCl[k]? = some q → u_Kn s q.1 q.2.1 q.2.2 (dC k) (dI k) := by
    refine ⟨fun k => if k = 0 then c0_ else c1_, fun k => if k = 0 then iS0 else iS1, ?_⟩
    intro k q hq
    match k, hq with
    | 0, hq => cases hq; exact hKn0
    | 1, hq => cases hq; exact hKn1
    | k + 2, hq => simp [vwCl] at hq
  have hS : va_S (fun q : Nat => s.heap.size ≤ q) s.heap s.heap [] := va_S.rf
  have hK : va_K (dC, dI) vwCl [] s := ⟨hKc, fun k q h => by simp at h⟩
  have hP : va_P (dC, dI) vwCl [] s.heap := fun k q h => by simp at h
  have hD : va_D (fun q : Nat => s.heap.size ≤ q) [] := ⟨fun i j p q h => by simp at h, fun k q h => by simp at h⟩
  have hl := lv_entry ([.ref b]) (n := 4) (Nat.le_of_ble_eq_true rfl)
  rw [lg_entry_eq]
  generalize (lg_sl ([.ref b]) ++ List.replicate (4 - (lg_sl ([.ref b])).length) Slot.unset).toArray = ls at hl ⊢
  have hl : lv_has ls 4 [(0, .ref b)] := hl
  refine va_new (ci := 0) (fs := [.int 0, .null, .null, .null, .null]) (C := RX0) (T := TX0) (N := 5) hx hb hts in_X0 tyX0 tyX0_ok hown (hts _ q15) (hts _ q16) (hts _ q13) hK hP hD hS hA rfl (fun j hj => by rcases (show j = 0 ∨ j = 1 ∨ j = 2 ∨ j = 3 ∨ j = 4 by omega) with rfl | rfl | rfl | rfl | rfl <;> rfl) (Nat.le_of_ble_eq_true rfl) (Nat.le_of_ble_eq_true rfl) dL_law_0 (fun h0 H hP hD hS => ?_)
  have hP : va_P (dC, dI) vwCl [(h0, .inr (0, [.int 0, .null, .null, .null, .null]))] H := hP
  have hD : va_D (fun q : Nat => s.heap.size ≤ q) [(h0, .inr (0, [.int 0, .null, .null, .null, .null]))] := hD
  refine lv_dup hx hb dL_law_3 rfl ?_
  have hPc := hP.sub (ws' := [(h0, .inr (0, [.int 0, .null, .null, .null, .null]))]) [0] rfl
  have hDc := hD.sub (ws' := [(h0, .inr (0, [.int 0, .null, .null, .null, .null]))]) [0] (by decide) rfl
  have hKc := hK.sub (tys' := []) [] rfl
  have hFc := va_free (wc := [(h0, .inr (0, [.int 0, .null, .null, .null, .null]))]) hD hS hA [0] rfl
  refine va_callv (va_runI (As := []) (rest := [.ref h0]) ⟨hx, hb, hml, hown, hts⟩ (c_X0_init l dC dI h0 H.size) (cwI 0 hts (lw_meth q19) rfl rfl rfl (hts _ q13) (hts _ q17) (hts _ q18) rfl (by decide +kernel) ⟨Nat.le_of_ble_eq_true rfl, Nat.le_of_ble_eq_true rfl⟩) (jg_preI hPc hKc hDc) rfl rfl hl.1 rfl (lv_room (Nat.le_of_ble_eq_true rfl)) dL_law_4 ⟨Nat.le_of_ble_eq_true rfl, Nat.le_of_ble_eq_true rfl⟩) hS (fun q _ h => hFc q h) hFc (fun u t H1 locs ht hvm hw hB hz1 hk1 hS => ?_)
  obtain ⟨h1, h2, h3, h4, d1, d2, d3, d4, f, hf, hP1, hK1, hD1⟩ := hB
  rw [ht] at hP1
  have hK1 := va_K.moved hvm.symm hK1
  obtain ⟨hP, hD⟩ := va_join (wr := []) (w1 := [(h0, oX (nI 1) h1 h2 h3 h4), (h1, aI d1 8 (fun _ => 0)), (h2, aI d2 272 f), (h3, aI d3 1024 (fun _ => 0)), (h4, aI d4 1024 (fun _ => 0))]) hP hD [0] [] rfl rfl (by decide) (by decide) hk1 hFc hP1 hD1
  have hK := (hK.sub (tys' := []) [] rfl).app hK1
  generalize H1 = H at hP hS ⊢
  have hP : va_P (dC, dI) vwCl [(h0, oX (nI 1) h1 h2 h3 h4), (h1, aI d1 8 (fun _ => 0)), (h2, aI d2 272 f), (h3, aI d3 1024 (fun _ => 0)), (h4, aI d4 1024 (fun _ => 0))] H := hP
  have hD : va_D (fun q : Nat => s.heap.size ≤ q) [(h0, oX (nI 1) h1 h2 h3 h4), (h1, aI d1 8 (fun _ => 0)), (h2, aI d2 272 f), (h3, aI d3 1024 (fun _ => 0)), (h4, aI d4 1024 (fun _ => 0))] := hD
  have hK : va_K (dC, dI) vwCl [(d1, .int), (d2, .int), (d3, .int), (d4, .short)] s := hK
  refine W.widen (k := 5) (n := 2333) (by omega) (by omega) ?_
  refine lv_astore_n (lv' := [(1, .ref h0), (0, .ref b)]) hx hb dL_law_7 rfl hl (by decide) rfl (fun ls hl => ?_)
  refine va_new (ci := 1) (fs := [.int 0, .null]) (C := RX1) (T := TX1) (N := 2) hx hb hts in_X1 tyX1 tyX1_ok hown (hts _ q130) (hts _ q131) (hts _ q14) hK hP hD hS hA rfl (fun j hj => by rcases (show j = 0 ∨ j = 1 by omega) with rfl | rfl <;> rfl) (Nat.le_of_ble_eq_true rfl) (Nat.le_of_ble_eq_true rfl) dL_law_8 (fun g0 H hP hD hS => ?_)
  have hP : va_P (dC, dI) vwCl [(h0, oX (nI 1) h1 h2 h3 h4), (h1, aI d1 8 (fun _ => 0)), (h2, aI d2 272 f), (h3, aI d3 1024 (fun _ => 0)), (h4, aI d4 1024 (fun _ => 0)), (g0, .inr (1, [.int 0, .null]))] H := hP
  have hD : va_D (fun q : Nat => s.heap.size ≤ q) [(h0, oX (nI 1) h1 h2 h3 h4), (h1, aI d1 8 (fun _ => 0)), (h2, aI d2 272 f), (h3, aI d3 1024 (fun _ => 0)), (h4, aI d4 1024 (fun _ => 0)), (g0, .inr (1, [.int 0, .null]))] := hD
  refine lv_dup hx hb dL_law_11 rfl ?_
  have hPc := hP.sub (ws' := [(g0, .inr (1, [.int 0, .null]))]) [5] rfl
  have hDc := hD.sub (ws' := [(g0, .inr (1, [.int 0, .null]))]) [5] (by decide) rfl
  have hKc := hK.sub (tys' := []) [] rfl
  have hFc := va_free (wc := [(g0, .inr (1, [.int 0, .null]))]) hD hS hA [5] rfl
  refine va_callv (va_runI (As := []) (rest := [.ref g0]) ⟨hx, hb, hml, hown, hts⟩ (c_X1_init l dC dI g0 H.size) (cwI 0 hts (lw_meth q134) rfl rfl rfl (hts _ q14) (hts _ q132) (hts _ q133) rfl (by decide +kernel) ⟨Nat.le_of_ble_eq_true rfl, Nat.le_of_ble_eq_true rfl⟩) (jg_preI hPc hKc hDc) rfl rfl hl.1 rfl (lv_room (Nat.le_of_ble_eq_true rfl)) dL_law_12 ⟨Nat.le_of_ble_eq_true rfl, Nat.le_of_ble_eq_true rfl⟩) hS (fun q _ h => hFc q h) hFc (fun u t H1 locs ht hvm hw hB hz1 hk1 hS => ?_)
  obtain ⟨g1, e1, hP1, hK1, hD1⟩ := hB
  rw [ht] at hP1
  have hK1 := va_K.moved hvm.symm hK1
  obtain ⟨hP, hD⟩ := va_join (wr := [(h0, oX (nI 1) h1 h2 h3 h4), (h1, aI d1 8 (fun _ => 0)), (h2, aI d2 272 f), (h3, aI d3 1024 (fun _ => 0)), (h4, aI d4 1024 (fun _ => 0))]) (w1 := [(g0, oM (nI 1) g1), (g1, aI e1 8 (fun _ => 0))]) hP hD [5] [0, 1, 2, 3, 4] rfl rfl (by decide) (by decide) hk1 hFc hP1 hD1
  have hK := (hK.sub (tys' := [(d1, .int), (d2, .int), (d3, .int), (d4, .short)]) [0, 1, 2, 3] rfl).app hK1
  generalize H1 = H at hP hS ⊢
  have hP : va_P (dC, dI) vwCl [(h0, oX (nI 1) h1 h2 h3 h4), (h1, aI d1 8 (fun _ => 0)), (h2, aI d2 272 f), (h3, aI d3 1024 (fun _ => 0)), (h4, aI d4 1024 (fun _ => 0)), (g0, oM (nI 1) g1), (g1, aI e1 8 (fun _ => 0))] H := hP
  have hD : va_D (fun q : Nat => s.heap.size ≤ q) [(h0, oX (nI 1) h1 h2 h3 h4), (h1, aI d1 8 (fun _ => 0)), (h2, aI d2 272 f), (h3, aI d3 1024 (fun _ => 0)), (h4, aI d4 1024 (fun _ => 0)), (g0, oM (nI 1) g1), (g1, aI e1 8 (fun _ => 0))] := hD
  have hK : va_K (dC, dI) vwCl [(d1, .int), (d2, .int), (d3, .int), (d4, .short), (e1, .int)] s := hK
  refine W.widen (k := 7) (n := 2343) (by omega) (by omega) ?_
  refine lv_astore_n (lv' := [(2, .ref g0), (1, .ref h0), (0, .ref b)]) hx hb dL_law_15 rfl hl (by decide) rfl (fun ls hl => ?_)
  refine lv_iconst (v := nI 0) hx hb dL_law_16 (by decide +kernel) ?_
  refine lv_istore_n (lv' := [(3, .int (nI 0)), (2, .ref g0), (1, .ref h0), (0, .ref b)]) hx hb dL_law_17 rfl hl (by decide) rfl (fun ls hl => ?_)
  exact jg_law_loop hL C0 H locs ls ⟨1, fun _ => 0, f, fun _ => 0, fun _ => 0, h0, h1, h2, h3, h4, g0, g1, d1, d2, d3, d4, e1, ⟨by omega, by omega, fun j hj => ⟨0, by omega, nI_0.symm⟩, hf⟩, hK, hP, hD, hS, lv_sub hl [3, 2, 1, 0] rfl⟩
set_option maxHeartbeats 4000000 in
theorem lw_walk (l : Launch) (b : Addr) (xs : List Int32) : MetFree l x (headSpec (Jvm.Cond.code x code maxLocals ret :: tables_1) room_1) (lw_P b xs) (fun _ _ _ _ _ => True) lw_Q := by
  refine MetFree.of_bodyS (code := code) (maxLocals := maxLocals) (ret := ret) (by decide) ?_ ?_
  · intro args s m h hn
    obtain ⟨meth, c, h1, h2, h3, h4, h5, h6, -, -⟩ := Cond.code_spec hn (atoms_spec (ws := Jvm.Cond.code x code maxLocals ret :: tables_1) h _ List.mem_cons_self)
    exact ⟨meth, c, h1, h2, h3, h4, h5, h6⟩
  · intro p e s m args below meth c s₁ B hml0 hP _
    obtain ⟨rfl, hx, hbd, hgv⟩ := hP
    obtain ⟨scr, harrAt, hlist, hof, hsmall⟩ := hx
    obtain ⟨hcb, hkn, -, -⟩ := State.arrayAt?_spec harrAt
    have hown : s.vm.findClass R_law = some m.cls := findClass_of_methodNamed B.named
    have hts0 : ∀ c ∈ (Jvm.Cond.code x code maxLocals ret :: tables_1), c.before #[Value.ref b] s = true := atoms_spec (ws := Jvm.Cond.code x code maxLocals ret :: tables_1) B.pre
    have hts : ∀ w ∈ lw_tbl, w.before #[Value.ref b] s = true := k2_hts_sels lw_privs (fun w hw => hts0 w (List.mem_cons_of_mem _ hw)) lw_privs_ok
    have hml : c.maxLocals = 4 := B.maxLocals_eq (hts0 _ List.mem_cons_self)
    have X₀ : Stand p l e room_1 s m #[Value.ref b] below meth c s₁ [] 0 0 := Stand.of_body B
    have hh0 : s₁.heap = s.heap := by rw [B.state]; rfl
    have hsz : scr.slots.size = xs.length := by rw [← Array.length_toList, hlist, List.length_map]
    have hval : ∀ j : Nat, j < xs.length → scr.slots[j]? = some (.int (xs.getD j 0)) := fun j hj => by
      rw [← Array.getElem?_toList, hlist]
      simp [hj]
    have hbl : b < s.heap.size := (Array.getElem?_eq_some_iff.mp hcb).1
    have hX : va_X b xs.length (fun j => xs.getD j 0) s s.heap := ⟨scr, hcb, hof, hkn, hsz, hval⟩
    have K : W p l e room_1 s m #[Value.ref b] below meth c s₁.heap [] 0 0 (lw_Z below #[Value.ref b] s) (entryFrame m ([Value.ref b] : List Value).toArray 4) := by
      rw [hh0]
      exact whole_start l hbd ⟨B.exec, B.bytes, B.returns, hml, hown, hts, hX, hbl, B.notSynchronized, hgv⟩
    obtain ⟨t, a1, o, b1, b2, b3⟩ := K s₁ rfl X₀
    exact ⟨t, o, a1, b1, b2, b3⟩
theorem lw_pre_spec {args : Array Value} {s : State} (h : (Jvm.Cond.and given_1 narrow_1).before args s = true) (hr : rest_1_c.before args s = true) : ∃ (b : Addr) (xs : List Int32), lw_P b xs args s := by
  have hs := flat_of_before _ h
  have hq := flat_of_before _ hr
  have hc : (Cond.count 1).before args s = true := hs _ (by decide +kernel)
  have harr : (Cond.arrayOf (.arg 0) .int).before args s = true := hs _ (by decide +kernel)
  have hle : (Cond.le (.length (.arg 0)) (.int 256)).before args s = true := hs _ (by decide +kernel)
  have hlen : (Cond.isInt (.length (.arg 0))).before args s = true := hq _ (by decide +kernel)
  have hall : (Cond.all (.arg 0) (.isInt (.elem (.arg 0) (.index 0)))).before args s = true := hq _ (by decide +kernel)
  obtain ⟨b, xs, hb, hx⟩ := State.ints_of_pre rfl harr hlen hall
  have hsm : xs.length < 2 ^ 31 := hx.choose_spec.2.2.2
  have hev : (Term.length (.arg 0)).eval args s none [] s = some (.int xs.length.toInt32) := hx.length_eval hb
  have hv := Cond.le_ints hev (show (Term.int 256).eval args s none [] s = some (.int 256) from rfl)
  have hd : xs.length.toInt32 ≤ 256 := by
    simpa [Cond.before, Cond.holds, hv] using hle
  have hN : xs.length ≤ 256 := (Int32.ofNat_le_ofNat hsm (by decide)).mp (show Int32.ofNat xs.length ≤ Int32.ofNat 256 from hd)
  exact ⟨b, xs, Cond.one_arg hc (show args[0]? = some (.ref b) from hb), hx, hN, h⟩
theorem lw_comes (l : Launch) : Comes l x (Jvm.Cond.code x code maxLocals ret :: tables_1) room_1 (fun tb e args s => Calls_1 tb e args s ∧ rest_1 tb e args s ∧ Pre_1 tb e args s)
    (fun _ _ args s o t => lw_Q args s o t) := by
  intro p e ha hc hk s m args below hf hfit hheap happ hpre
  obtain ⟨b, xs, hP⟩ := lw_pre_spec hpre.2.2 hpre.2.1
  obtain ⟨k, o, h1, h2, h3, hQ⟩ := lw_walk l b xs p e ha hc hk s m args below hf ((Spec.applies_iff_loose hf).mp happ).1 hP trivial
  exact ⟨k, o, h1, h2, h3, hQ⟩
theorem lw_frame {s t : State} {o : Outcome} {args : Array Value} (h : Framed s o t [] 600000 7290000) :
    Framed s o t (fieldLocs frame_1_writes args s ++ arrayLocs frame_1_arrays args s ++ staticLocs frame_1_statics s) 600000 7290000 := h
theorem lw_limb (L : Cond) (hL : ∀ (args : Array Value) (s t : State), L.after args s (.returned (some (.int 1))) t = true) :
    ArmFor flags0 classFile x code maxLocals ret World_1 tables_1 room_1 Calls_1 rest_1 Pre_1
      (fun tb e a s o t => postC L tb e a s o t ∧ Framed s o t (fieldLocs frame_1_writes a s ++ arrayLocs frame_1_arrays a s ++ staticLocs frame_1_statics s) 600000 7290000) := by
  intro l _ _ _ p e ha hc hk s m args below hf hfit hheap happ hpre
  obtain ⟨k, o, h1, h2, h3, rfl, hF⟩ := lw_comes l p e ha hc hk s m args below hf hfit hheap happ hpre
  exact ⟨k, _, h1, h2, h3, hL args s _, lw_frame hF⟩
theorem i_vc : Claimed_1_1 ∧ Claimed_1_2 := ⟨lw_limb limb_1_1 (fun args s t => by simp [limb_1_1, Cond.after, Cond.holds, Cond.value]), lw_limb limb_1_2 (fun args s t => Cond.after_iff.mpr (by
  first | (rw [show limb_1_2 = Cond.eq .result (.int 1) from rfl, Cond.eq_ints (x := 1) (y := 1) rfl rfl]; simp; done) | (simp [limb_1_2, Cond.value, Term.eval]; done)))⟩
end
