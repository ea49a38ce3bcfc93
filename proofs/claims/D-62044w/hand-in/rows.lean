section
-- ===== PART A: goes FIRST, ahead of the names: the tables' words, and 'selects' of the private methods out of them =====
/-- a private method of a class that the tables say can be made, by its rows of tables_1 -/
def lw_okq (q : MethodName × Nat) : Prop := (q.1.cls ≠ "java/lang/invoke/MethodHandle" ∧ q.1.cls ≠ "java/lang/invoke/VarHandle") ∧ Cond.instantiable q.1.cls q.2 ∈ tables_1 ∧ Cond.privateMethod q.1 ∈ tables_1 ∧ Cond.instanceMethod q.1 ∈ tables_1
set_option maxRecDepth 100000
theorem lw_t1 {w : Cond} (h : w ∈ tables_1_1) : w ∈ tables_1 := List.mem_append_left _ h
theorem lw_t2 {w : Cond} (h : w ∈ tables_1_2) : w ∈ tables_1 := List.mem_append_right _ h
theorem lw_p0 : lw_okq (⟨"WarpMachine", "findMeetings", "()V"⟩, 19) := ⟨⟨by decide +kernel, by decide +kernel⟩, lw_t1 (List.mem_of_getElem? (i := 4) rfl), lw_t1 (List.mem_of_getElem? (i := 88) rfl), lw_t1 (List.mem_of_getElem? (i := 89) rfl)⟩
theorem lw_p1 : lw_okq (⟨"WarpMachine", "behind", "(I)J"⟩, 19) := ⟨⟨by decide +kernel, by decide +kernel⟩, lw_t1 (List.mem_of_getElem? (i := 4) rfl), lw_t1 (List.mem_of_getElem? (i := 92) rfl), lw_t1 (List.mem_of_getElem? (i := 93) rfl)⟩
theorem lw_p2 : lw_okq (⟨"WarpMachine", "capped", "(I)I"⟩, 19) := ⟨⟨by decide +kernel, by decide +kernel⟩, lw_t1 (List.mem_of_getElem? (i := 4) rfl), lw_t1 (List.mem_of_getElem? (i := 96) rfl), lw_t1 (List.mem_of_getElem? (i := 97) rfl)⟩
theorem lw_p3 : lw_okq (⟨"WarpMachine", "nearest", "(I)I"⟩, 19) := ⟨⟨by decide +kernel, by decide +kernel⟩, lw_t1 (List.mem_of_getElem? (i := 4) rfl), lw_t1 (List.mem_of_getElem? (i := 100) rfl), lw_t1 (List.mem_of_getElem? (i := 101) rfl)⟩
theorem lw_p4 : lw_okq (⟨"WarpMachine", "reset", "()V"⟩, 19) := ⟨⟨by decide +kernel, by decide +kernel⟩, lw_t1 (List.mem_of_getElem? (i := 4) rfl), lw_t1 (List.mem_of_getElem? (i := 105) rfl), lw_t1 (List.mem_of_getElem? (i := 106) rfl)⟩
theorem lw_p5 : lw_okq (⟨"WarpMachine", "stepWarp", "()V"⟩, 19) := ⟨⟨by decide +kernel, by decide +kernel⟩, lw_t1 (List.mem_of_getElem? (i := 4) rfl), lw_t1 (List.mem_of_getElem? (i := 109) rfl), lw_t1 (List.mem_of_getElem? (i := 110) rfl)⟩
theorem lw_p6 : lw_okq (⟨"WarpMachine", "endThreads", "(III)V"⟩, 19) := ⟨⟨by decide +kernel, by decide +kernel⟩, lw_t1 (List.mem_of_getElem? (i := 4) rfl), lw_t1 (List.mem_of_getElem? (i := 113) rfl), lw_t1 (List.mem_of_getElem? (i := 114) rfl)⟩
theorem lw_p7 : lw_okq (⟨"WarpMachine", "carryOut", "(III)V"⟩, 19) := ⟨⟨by decide +kernel, by decide +kernel⟩, lw_t1 (List.mem_of_getElem? (i := 4) rfl), lw_t1 (List.mem_of_getElem? (i := 117) rfl), lw_t1 (List.mem_of_getElem? (i := 118) rfl)⟩
theorem lw_p8 : lw_okq (⟨"WarpMachine", "work", "(III)V"⟩, 19) := ⟨⟨by decide +kernel, by decide +kernel⟩, lw_t1 (List.mem_of_getElem? (i := 4) rfl), lw_t1 (List.mem_of_getElem? (i := 121) rfl), lw_t1 (List.mem_of_getElem? (i := 122) rfl)⟩
theorem lw_p9 : lw_okq (⟨"WarpMachine", "branch", "(IIII)V"⟩, 19) := ⟨⟨by decide +kernel, by decide +kernel⟩, lw_t1 (List.mem_of_getElem? (i := 4) rfl), lw_t1 (List.mem_of_getElem? (i := 128) rfl), lw_t1 (List.mem_of_getElem? (i := 129) rfl)⟩
theorem lw_p10 : lw_okq (⟨"WarpMachine", "pushPart", "(III)V"⟩, 19) := ⟨⟨by decide +kernel, by decide +kernel⟩, lw_t1 (List.mem_of_getElem? (i := 4) rfl), lw_t1 (List.mem_of_getElem? (i := 132) rfl), lw_t1 (List.mem_of_getElem? (i := 133) rfl)⟩
theorem lw_p11 : lw_okq (⟨"WarpMachine", "isThread", "(I)Z"⟩, 19) := ⟨⟨by decide +kernel, by decide +kernel⟩, lw_t1 (List.mem_of_getElem? (i := 4) rfl), lw_t1 (List.mem_of_getElem? (i := 140) rfl), lw_t1 (List.mem_of_getElem? (i := 141) rfl)⟩
theorem lw_p12 : lw_okq (⟨"WarpMachineModel", "runThread", "(I)V"⟩, 12) := ⟨⟨by decide +kernel, by decide +kernel⟩, lw_t1 (List.mem_of_getElem? (i := 163) rfl), lw_t1 (List.mem_of_getElem? (i := 222) rfl), lw_t1 (List.mem_of_getElem? (i := 223) rfl)⟩
theorem lw_p13 : lw_okq (⟨"WarpMachineModel", "carryOut", "(I)I"⟩, 12) := ⟨⟨by decide +kernel, by decide +kernel⟩, lw_t1 (List.mem_of_getElem? (i := 163) rfl), lw_t1 (List.mem_of_getElem? (i := 226) rfl), lw_t1 (List.mem_of_getElem? (i := 227) rfl)⟩
theorem lw_p14 : lw_okq (⟨"WarpMachineModel", "missing", "(I)Z"⟩, 12) := ⟨⟨by decide +kernel, by decide +kernel⟩, lw_t1 (List.mem_of_getElem? (i := 163) rfl), lw_t1 (List.mem_of_getElem? (i := 237) rfl), lw_t1 (List.mem_of_getElem? (i := 238) rfl)⟩
def lw_privs_1 : List (MethodName × Nat) := [(⟨"WarpMachine", "findMeetings", "()V"⟩, 19), (⟨"WarpMachine", "behind", "(I)J"⟩, 19), (⟨"WarpMachine", "capped", "(I)I"⟩, 19), (⟨"WarpMachine", "nearest", "(I)I"⟩, 19), (⟨"WarpMachine", "reset", "()V"⟩, 19), (⟨"WarpMachine", "stepWarp", "()V"⟩, 19), (⟨"WarpMachine", "endThreads", "(III)V"⟩, 19), (⟨"WarpMachine", "carryOut", "(III)V"⟩, 19), (⟨"WarpMachine", "work", "(III)V"⟩, 19), (⟨"WarpMachine", "branch", "(IIII)V"⟩, 19), (⟨"WarpMachine", "pushPart", "(III)V"⟩, 19), (⟨"WarpMachine", "isThread", "(I)Z"⟩, 19), (⟨"WarpMachineModel", "runThread", "(I)V"⟩, 12), (⟨"WarpMachineModel", "carryOut", "(I)I"⟩, 12), (⟨"WarpMachineModel", "missing", "(I)Z"⟩, 12)]
theorem lw_r1 : ∀ q ∈ lw_privs_1, lw_okq q := List.forall_mem_cons.mpr ⟨lw_p0, List.forall_mem_cons.mpr ⟨lw_p1, List.forall_mem_cons.mpr ⟨lw_p2, List.forall_mem_cons.mpr ⟨lw_p3, List.forall_mem_cons.mpr ⟨lw_p4, List.forall_mem_cons.mpr ⟨lw_p5, List.forall_mem_cons.mpr ⟨lw_p6, List.forall_mem_cons.mpr ⟨lw_p7, List.forall_mem_cons.mpr ⟨lw_p8, List.forall_mem_cons.mpr ⟨lw_p9, List.forall_mem_cons.mpr ⟨lw_p10, List.forall_mem_cons.mpr ⟨lw_p11, List.forall_mem_cons.mpr ⟨lw_p12, List.forall_mem_cons.mpr ⟨lw_p13, List.forall_mem_cons.mpr ⟨lw_p14, fun _ h => absurd h List.not_mem_nil⟩⟩⟩⟩⟩⟩⟩⟩⟩⟩⟩⟩⟩⟩⟩
def lw_privs : List (MethodName × Nat) := lw_privs_1
def lw_tbl : List Cond := k2_sels lw_privs ++ tables_1
theorem lw_privs_ok : ∀ q ∈ lw_privs, lw_okq q := lw_r1
-- ===== ONE list of words for every method: the tables' words that hold all through a run =====
def lw_all : List Cond := lw_tbl.filter goodWord
/-- a word of the tables by its place: claim/WORDS.tsv -/
theorem lw_w {w : Cond} (i : Nat) (h : lw_tbl[i]? = some w) (g : goodWord w = true) : w ∈ lw_all := List.mem_filter.mpr ⟨List.mem_of_getElem? h, g⟩
theorem lw_all_tbl {w : Cond} (h : w ∈ lw_all) : w ∈ lw_tbl := (List.mem_filter.mp h).1
theorem lw_self : GoodIn lw_all lw_all := fun w h => ⟨h, good_of_word (List.mem_filter.mp h).2⟩
/-- a class's field words, by their places -/
theorem lw_in (ws : List Cond) (ps : List Nat) (hp : ws = ps.filterMap (fun i => lw_tbl[i]?)) (hg : ws.all goodWord = true) : ∀ w ∈ ws, w ∈ lw_all := by
  intro w h
  have h1 := List.all_eq_true.mp hg w h
  rw [hp] at h
  obtain ⟨i, -, hi⟩ := List.mem_filterMap.mp h
  exact lw_w i hi h1
/-- the words of a contract for the method y with code b, L locals, answer r -/
abbrev ws_ (y : MethodName) (b : ByteArray) (L : Nat) (r : Option FieldType) : List Cond := Cond.code y b L r :: lw_all
theorem lw_meth {y : MethodName} {b : ByteArray} {L : Nat} {r : Option FieldType} (h : Cond.code y b L r ∈ lw_all) : GoodIn lw_all (ws_ y b L r) := by
  intro w hw
  rcases List.mem_cons.mp hw with e | e
  · rw [e]
    exact lw_self _ h
  · exact lw_self _ e
theorem lw_app {a c : List Cond} (ha : ∀ w ∈ a, w ∈ lw_all) (hc : GoodIn lw_all c) : GoodIn lw_all (a ++ c) := by
  intro w hw
  rcases List.mem_append.mp hw with e | e
  · exact lw_self w (ha w e)
  · exact hc w e
/-- what a call through an object asks: cwV n hts (lw_V ..) -/
theorem lw_V {own : String} {idx : Nat} {C : String} {y : MethodName} {b : ByteArray} {L : Nat} {r : Option FieldType} (h1 : Cond.methodLink own idx y ∈ lw_all) (h2 : Cond.instanceMethod y ∈ lw_all) (h3 : Cond.selects C y y ∈ lw_all) (h4 : Cond.initialized C ∈ lw_all) (h5 : Cond.code y b L r ∈ lw_all) : GoodIn lw_all (wsV own idx C y (ws_ y b L r)) := by
  refine lw_app ?_ (lw_meth h5)
  intro w hw
  simp only [List.mem_cons, List.not_mem_nil, or_false] at hw
  rcases hw with e | e | e | e
  · rw [e]; exact h1
  · rw [e]; exact h2
  · rw [e]; exact h3
  · rw [e]; exact h4
/-- what a static call asks: va_cwS n hts (lw_S ..) -/
theorem lw_S {own : String} {idx : Nat} {y : MethodName} {b : ByteArray} {L : Nat} {r : Option FieldType} (h1 : Cond.methodLink own idx y ∈ lw_all) (h2 : Cond.static y ∈ lw_all) (h3 : Cond.initialized y.cls ∈ lw_all) (h4 : Cond.code y b L r ∈ lw_all) : GoodIn lw_all (va_wsS own idx y (ws_ y b L r)) := by
  refine lw_app ?_ (lw_meth h4)
  intro w hw
  simp only [List.mem_cons, List.not_mem_nil, or_false] at hw
  rcases hw with e | e | e
  · rw [e]; exact h1
  · rw [e]; exact h2
  · rw [e]; exact h3
/-- the words of a contract for a method WITH HANDLERS (hh: its table) -/
abbrev wsW_ (y : MethodName) (b : ByteArray) (L : Nat) (r : Option FieldType) (hh : List (Nat × Nat × Nat × Nat)) : List Cond := Cond.codeWith y b L r hh :: lw_all
theorem lw_methW {y : MethodName} {b : ByteArray} {L : Nat} {r : Option FieldType} {hh : List (Nat × Nat × Nat × Nat)} (h : Cond.codeWith y b L r hh ∈ lw_all) : GoodIn lw_all (wsW_ y b L r hh) := by
  intro w hw
  rcases List.mem_cons.mp hw with e | e
  · rw [e]
    exact lw_self _ h
  · exact lw_self _ e
/-- any list of words by their places (lw_in), good -/
theorem lw_good {ws : List Cond} (h : ∀ w ∈ ws, w ∈ lw_all) : GoodIn lw_all ws := fun w hw => lw_self w (h w hw)
/-- what a call of a method with handlers asks: vx_cwVW n hts (lw_VW ..), vx_cwSW n hts (lw_SW ..) -/
theorem lw_VW {own : String} {idx : Nat} {C : String} {y : MethodName} {b : ByteArray} {L : Nat} {r : Option FieldType} {hh : List (Nat × Nat × Nat × Nat)} (h1 : Cond.methodLink own idx y ∈ lw_all) (h2 : Cond.instanceMethod y ∈ lw_all) (h3 : Cond.selects C y y ∈ lw_all) (h4 : Cond.initialized C ∈ lw_all) (h5 : Cond.codeWith y b L r hh ∈ lw_all) : GoodIn lw_all (wsV own idx C y (wsW_ y b L r hh)) := by
  refine lw_app ?_ (lw_methW h5)
  intro w hw
  simp only [List.mem_cons, List.not_mem_nil, or_false] at hw
  rcases hw with e | e | e | e
  · rw [e]; exact h1
  · rw [e]; exact h2
  · rw [e]; exact h3
  · rw [e]; exact h4
theorem lw_SW {own : String} {idx : Nat} {y : MethodName} {b : ByteArray} {L : Nat} {r : Option FieldType} {hh : List (Nat × Nat × Nat × Nat)} (h1 : Cond.methodLink own idx y ∈ lw_all) (h2 : Cond.static y ∈ lw_all) (h3 : Cond.initialized y.cls ∈ lw_all) (h4 : Cond.codeWith y b L r hh ∈ lw_all) : GoodIn lw_all (va_wsS own idx y (wsW_ y b L r hh)) := by
  refine lw_app ?_ (lw_methW h4)
  intro w hw
  simp only [List.mem_cons, List.not_mem_nil, or_false] at hw
  rcases hw with e | e | e
  · rw [e]; exact h1
  · rw [e]; exact h2
  · rw [e]; exact h3
/-- a word by its place in its run of the tables -/
theorem lw_at {r : List Cond} (hr : ∀ w ∈ r, w ∈ lw_tbl) {w : Cond} (i : Nat) (h : r[i]? = some w) : w ∈ lw_tbl := hr w (List.mem_of_getElem? h)
theorem lw_g {w : Cond} (h : w ∈ lw_tbl) (g : goodWord w = true) : w ∈ lw_all := List.mem_filter.mpr ⟨h, g⟩
theorem lw_ms : ∀ w ∈ k2_sels lw_privs, w ∈ lw_tbl := fun w h => show w ∈ k2_sels lw_privs ++ tables_1 from List.mem_append_left _ h
theorem lw_m1 : ∀ w ∈ tables_1_1, w ∈ lw_tbl := fun w h => show w ∈ k2_sels lw_privs ++ tables_1 from List.mem_append_right (k2_sels lw_privs) (show w ∈ tables_1 from List.mem_append_left _ h)
theorem lw_m2 : ∀ w ∈ tables_1_2, w ∈ lw_tbl := fun w h => show w ∈ k2_sels lw_privs ++ tables_1 from List.mem_append_right (k2_sels lw_privs) (show w ∈ tables_1 from List.mem_append_right _ h)
theorem qs0 : (Cond.selects "WarpMachine" ⟨"WarpMachine", "findMeetings", "()V"⟩ ⟨"WarpMachine", "findMeetings", "()V"⟩) ∈ lw_all := lw_g (lw_at lw_ms 0 rfl) rfl
theorem qs1 : (Cond.selects "WarpMachine" ⟨"WarpMachine", "behind", "(I)J"⟩ ⟨"WarpMachine", "behind", "(I)J"⟩) ∈ lw_all := lw_g (lw_at lw_ms 1 rfl) rfl
theorem qs2 : (Cond.selects "WarpMachine" ⟨"WarpMachine", "capped", "(I)I"⟩ ⟨"WarpMachine", "capped", "(I)I"⟩) ∈ lw_all := lw_g (lw_at lw_ms 2 rfl) rfl
theorem qs3 : (Cond.selects "WarpMachine" ⟨"WarpMachine", "nearest", "(I)I"⟩ ⟨"WarpMachine", "nearest", "(I)I"⟩) ∈ lw_all := lw_g (lw_at lw_ms 3 rfl) rfl
theorem qs4 : (Cond.selects "WarpMachine" ⟨"WarpMachine", "reset", "()V"⟩ ⟨"WarpMachine", "reset", "()V"⟩) ∈ lw_all := lw_g (lw_at lw_ms 4 rfl) rfl
theorem qs5 : (Cond.selects "WarpMachine" ⟨"WarpMachine", "stepWarp", "()V"⟩ ⟨"WarpMachine", "stepWarp", "()V"⟩) ∈ lw_all := lw_g (lw_at lw_ms 5 rfl) rfl
theorem qs6 : (Cond.selects "WarpMachine" ⟨"WarpMachine", "endThreads", "(III)V"⟩ ⟨"WarpMachine", "endThreads", "(III)V"⟩) ∈ lw_all := lw_g (lw_at lw_ms 6 rfl) rfl
theorem qs7 : (Cond.selects "WarpMachine" ⟨"WarpMachine", "carryOut", "(III)V"⟩ ⟨"WarpMachine", "carryOut", "(III)V"⟩) ∈ lw_all := lw_g (lw_at lw_ms 7 rfl) rfl
theorem qs8 : (Cond.selects "WarpMachine" ⟨"WarpMachine", "work", "(III)V"⟩ ⟨"WarpMachine", "work", "(III)V"⟩) ∈ lw_all := lw_g (lw_at lw_ms 8 rfl) rfl
theorem qs9 : (Cond.selects "WarpMachine" ⟨"WarpMachine", "branch", "(IIII)V"⟩ ⟨"WarpMachine", "branch", "(IIII)V"⟩) ∈ lw_all := lw_g (lw_at lw_ms 9 rfl) rfl
theorem qs10 : (Cond.selects "WarpMachine" ⟨"WarpMachine", "pushPart", "(III)V"⟩ ⟨"WarpMachine", "pushPart", "(III)V"⟩) ∈ lw_all := lw_g (lw_at lw_ms 10 rfl) rfl
theorem qs11 : (Cond.selects "WarpMachine" ⟨"WarpMachine", "isThread", "(I)Z"⟩ ⟨"WarpMachine", "isThread", "(I)Z"⟩) ∈ lw_all := lw_g (lw_at lw_ms 11 rfl) rfl
theorem qs12 : (Cond.selects "WarpMachineModel" ⟨"WarpMachineModel", "runThread", "(I)V"⟩ ⟨"WarpMachineModel", "runThread", "(I)V"⟩) ∈ lw_all := lw_g (lw_at lw_ms 12 rfl) rfl
theorem qs13 : (Cond.selects "WarpMachineModel" ⟨"WarpMachineModel", "carryOut", "(I)I"⟩ ⟨"WarpMachineModel", "carryOut", "(I)I"⟩) ∈ lw_all := lw_g (lw_at lw_ms 13 rfl) rfl
theorem qs14 : (Cond.selects "WarpMachineModel" ⟨"WarpMachineModel", "missing", "(I)Z"⟩ ⟨"WarpMachineModel", "missing", "(I)Z"⟩) ∈ lw_all := lw_g (lw_at lw_ms 14 rfl) rfl
end
section
set_option maxRecDepth 100000
/-! java/lang/Object -/
def RJ0 : String := "java/lang/Object"
abbrev cJ0_init : ByteArray := object_method_1_code
def yJ0_init : MethodName := ⟨RJ0, "<init>", "()V"⟩
theorem q24 : (Jvm.Cond.instanceMethod ({ cls := "java/lang/Object", name := "<init>", desc := "()V" } : Jvm.MethodName)) ∈ lw_all := lw_g (lw_at lw_m1 9 rfl) rfl
theorem q25 : (Jvm.Cond.code ({ cls := "java/lang/Object", name := "<init>", desc := "()V" } : Jvm.MethodName) object_method_1_code (1 : Nat) (Option.none : Option Jvm.ClassFile.FieldType)) ∈ lw_all := lw_g (lw_at lw_m1 10 rfl) rfl
/-! WarpMachineLaw -/
def RX0 : String := "WarpMachineLaw"
abbrev cX0_cell : ByteArray := method_2_code
def yX0_cell : MethodName := ⟨RX0, "cell", "([II)I"⟩
theorem q15 : (Jvm.Cond.initialized "WarpMachineLaw") ∈ lw_all := lw_g (lw_at lw_m1 0 rfl) rfl
theorem q18 : (Jvm.Cond.classLink "WarpMachineLaw" (7 : Nat) "WarpMachine") ∈ lw_all := lw_g (lw_at lw_m1 3 rfl) rfl
theorem q20 : (Jvm.Cond.methodLink "WarpMachineLaw" (15 : Nat) ({ cls := "WarpMachine", name := "<init>", desc := "(I)V" } : Jvm.MethodName)) ∈ lw_all := lw_g (lw_at lw_m1 5 rfl) rfl
theorem q86 : (Jvm.Cond.methodLink "WarpMachineLaw" (21 : Nat) ({ cls := "WarpMachine", name := "emit", desc := "(IIII)I" } : Jvm.MethodName)) ∈ lw_all := lw_g (lw_at lw_m1 71 rfl) rfl
theorem q90 : (Jvm.Cond.methodLink "WarpMachineLaw" (26 : Nat) ({ cls := "WarpMachine", name := "clear", desc := "()V" } : Jvm.MethodName)) ∈ lw_all := lw_g (lw_at lw_m1 75 rfl) rfl
theorem q94 : (Jvm.Cond.methodLink "WarpMachineLaw" (30 : Nat) ({ cls := "WarpMachine", name := "input", desc := "(II)V" } : Jvm.MethodName)) ∈ lw_all := lw_g (lw_at lw_m1 79 rfl) rfl
theorem q98 : (Jvm.Cond.methodLink "WarpMachineLaw" (35 : Nat) ({ cls := "WarpMachine", name := "run", desc := "()I" } : Jvm.MethodName)) ∈ lw_all := lw_g (lw_at lw_m1 83 rfl) rfl
theorem q150 : (Jvm.Cond.methodLink "WarpMachineLaw" (40 : Nat) ({ cls := "WarpMachine", name := "reg", desc := "(II)I" } : Jvm.MethodName)) ∈ lw_all := lw_g (lw_at lw_m1 135 rfl) rfl
theorem q158 : (Jvm.Cond.methodLink "WarpMachineLaw" (45 : Nat) ({ cls := "WarpMachine", name := "line", desc := "(I)I" } : Jvm.MethodName)) ∈ lw_all := lw_g (lw_at lw_m1 143 rfl) rfl
theorem q162 : (Jvm.Cond.methodLink "WarpMachineLaw" (50 : Nat) ({ cls := "WarpMachine", name := "steps", desc := "(I)I" } : Jvm.MethodName)) ∈ lw_all := lw_g (lw_at lw_m1 147 rfl) rfl
theorem q166 : (Jvm.Cond.methodLink "WarpMachineLaw" (54 : Nat) ({ cls := "WarpMachine", name := "state", desc := "(I)I" } : Jvm.MethodName)) ∈ lw_all := lw_g (lw_at lw_m1 151 rfl) rfl
theorem q170 : (Jvm.Cond.methodLink "WarpMachineLaw" (58 : Nat) ({ cls := "WarpMachine", name := "output", desc := "(I)I" } : Jvm.MethodName)) ∈ lw_all := lw_g (lw_at lw_m1 155 rfl) rfl
theorem q174 : (Jvm.Cond.methodLink "WarpMachineLaw" (9 : Nat) ({ cls := "WarpMachineLaw", name := "cell", desc := "([II)I" } : Jvm.MethodName)) ∈ lw_all := lw_g (lw_at lw_m1 159 rfl) rfl
theorem q175 : (Jvm.Cond.static ({ cls := "WarpMachineLaw", name := "cell", desc := "([II)I" } : Jvm.MethodName)) ∈ lw_all := lw_g (lw_at lw_m1 160 rfl) rfl
theorem q176 : (Jvm.Cond.code ({ cls := "WarpMachineLaw", name := "cell", desc := "([II)I" } : Jvm.MethodName) method_2_code (2 : Nat) (Option.some Jvm.ClassFile.FieldType.int)) ∈ lw_all := lw_g (lw_at lw_m1 161 rfl) rfl
theorem q177 : (Jvm.Cond.classLink "WarpMachineLaw" (18 : Nat) "WarpMachineModel") ∈ lw_all := lw_g (lw_at lw_m1 162 rfl) rfl
theorem q179 : (Jvm.Cond.methodLink "WarpMachineLaw" (20 : Nat) ({ cls := "WarpMachineModel", name := "<init>", desc := "(I)V" } : Jvm.MethodName)) ∈ lw_all := lw_g (lw_at lw_m1 164 rfl) rfl
theorem q220 : (Jvm.Cond.methodLink "WarpMachineLaw" (25 : Nat) ({ cls := "WarpMachineModel", name := "emit", desc := "(IIII)I" } : Jvm.MethodName)) ∈ lw_all := lw_g (lw_at lw_m1 205 rfl) rfl
theorem q224 : (Jvm.Cond.methodLink "WarpMachineLaw" (29 : Nat) ({ cls := "WarpMachineModel", name := "clear", desc := "()V" } : Jvm.MethodName)) ∈ lw_all := lw_g (lw_at lw_m1 209 rfl) rfl
theorem q228 : (Jvm.Cond.methodLink "WarpMachineLaw" (34 : Nat) ({ cls := "WarpMachineModel", name := "input", desc := "(II)V" } : Jvm.MethodName)) ∈ lw_all := lw_g (lw_at lw_m1 213 rfl) rfl
theorem q232 : (Jvm.Cond.methodLink "WarpMachineLaw" (39 : Nat) ({ cls := "WarpMachineModel", name := "run", desc := "()I" } : Jvm.MethodName)) ∈ lw_all := lw_g (lw_at lw_m1 217 rfl) rfl
theorem q247 : (Jvm.Cond.methodLink "WarpMachineLaw" (44 : Nat) ({ cls := "WarpMachineModel", name := "reg", desc := "(II)I" } : Jvm.MethodName)) ∈ lw_all := lw_g (lw_at lw_m1 232 rfl) rfl
theorem q255 : (Jvm.Cond.methodLink "WarpMachineLaw" (49 : Nat) ({ cls := "WarpMachineModel", name := "line", desc := "(I)I" } : Jvm.MethodName)) ∈ lw_all := lw_g (lw_at lw_m2 0 rfl) rfl
theorem q259 : (Jvm.Cond.methodLink "WarpMachineLaw" (53 : Nat) ({ cls := "WarpMachineModel", name := "steps", desc := "(I)I" } : Jvm.MethodName)) ∈ lw_all := lw_g (lw_at lw_m2 4 rfl) rfl
theorem q263 : (Jvm.Cond.methodLink "WarpMachineLaw" (57 : Nat) ({ cls := "WarpMachineModel", name := "state", desc := "(I)I" } : Jvm.MethodName)) ∈ lw_all := lw_g (lw_at lw_m2 8 rfl) rfl
theorem q267 : (Jvm.Cond.methodLink "WarpMachineLaw" (61 : Nat) ({ cls := "WarpMachineModel", name := "output", desc := "(I)I" } : Jvm.MethodName)) ∈ lw_all := lw_g (lw_at lw_m2 12 rfl) rfl
/-! WarpMachine -/
def RX1 : String := "WarpMachine"
def TX1 : u_T := fun k => match k with
  | 0 => ("WarpMachine", "threads", "I", true)
  | 1 => ("WarpMachine", "lines", "I", false)
  | 2 => ("WarpMachine", "opOf", "[I", true)
  | 3 => ("WarpMachine", "aOf", "[I", true)
  | 4 => ("WarpMachine", "bOf", "[I", true)
  | 5 => ("WarpMachine", "cOf", "[I", true)
  | 6 => ("WarpMachine", "in", "[I", true)
  | 7 => ("WarpMachine", "out", "[I", true)
  | 8 => ("WarpMachine", "registers", "[I", true)
  | 9 => ("WarpMachine", "lineOf", "[I", true)
  | 10 => ("WarpMachine", "stepsOf", "[I", true)
  | 11 => ("WarpMachine", "stateOf", "[I", true)
  | 12 => ("WarpMachine", "passed", "[J", true)
  | 13 => ("WarpMachine", "meeting", "[I", true)
  | 14 => ("WarpMachine", "alive", "I", false)
  | 15 => ("WarpMachine", "depth", "I", false)
  | 16 => ("WarpMachine", "partLine", "[I", true)
  | 17 => ("WarpMachine", "partEnd", "[I", true)
  | _ => ("WarpMachine", "partMask", "[I", true)
def tyX1 : Nat → FieldType := fun k => match k with
  | 0 => .int
  | 1 => .int
  | 2 => .array .int
  | 3 => .array .int
  | 4 => .array .int
  | 5 => .array .int
  | 6 => .array .int
  | 7 => .array .int
  | 8 => .array .int
  | 9 => .array .int
  | 10 => .array .int
  | 11 => .array .int
  | 12 => .array .long
  | 13 => .array .int
  | 14 => .int
  | 15 => .int
  | 16 => .array .int
  | 17 => .array .int
  | _ => .array .int
abbrev wsX10 : List Cond := u_ws RX1 TX1 19
set_option maxRecDepth 100000 in
theorem nmX1 : ∀ a, a < 19 → ∀ b, b < 19 → a ≠ b → (TX1 a).2.1 ≠ (TX1 b).2.1 := by decide +kernel
set_option maxRecDepth 100000 in
theorem tyX1_ok : ∀ k, k < 19 → parseFieldDescriptor (TX1 k).2.2.1 = some (tyX1 k) := by decide +kernel
abbrev cX1_init : ByteArray := prog_1_method_1_code
def yX1_init : MethodName := ⟨RX1, "<init>", "(I)V"⟩
abbrev cX1_emit : ByteArray := prog_1_method_2_code
def yX1_emit : MethodName := ⟨RX1, "emit", "(IIII)I"⟩
abbrev cX1_clear : ByteArray := prog_1_method_3_code
def yX1_clear : MethodName := ⟨RX1, "clear", "()V"⟩
abbrev cX1_input : ByteArray := prog_1_method_4_code
def yX1_input : MethodName := ⟨RX1, "input", "(II)V"⟩
abbrev cX1_run : ByteArray := prog_1_method_5_code
def yX1_run : MethodName := ⟨RX1, "run", "()I"⟩
abbrev cX1_findMeetings : ByteArray := prog_1_method_14_code
def yX1_findMeetings : MethodName := ⟨RX1, "findMeetings", "()V"⟩
abbrev cX1_behind : ByteArray := prog_1_method_15_code
def yX1_behind : MethodName := ⟨RX1, "behind", "(I)J"⟩
abbrev cX1_capped : ByteArray := prog_1_method_13_code
def yX1_capped : MethodName := ⟨RX1, "capped", "(I)I"⟩
abbrev cX1_nearest : ByteArray := prog_1_method_16_code
def yX1_nearest : MethodName := ⟨RX1, "nearest", "(I)I"⟩
abbrev cX1_reset : ByteArray := prog_1_method_12_code
def yX1_reset : MethodName := ⟨RX1, "reset", "()V"⟩
abbrev cX1_stepWarp : ByteArray := prog_1_method_17_code
def yX1_stepWarp : MethodName := ⟨RX1, "stepWarp", "()V"⟩
abbrev cX1_endThreads : ByteArray := prog_1_method_18_code
def yX1_endThreads : MethodName := ⟨RX1, "endThreads", "(III)V"⟩
abbrev cX1_carryOut : ByteArray := prog_1_method_19_code
def yX1_carryOut : MethodName := ⟨RX1, "carryOut", "(III)V"⟩
abbrev cX1_work : ByteArray := prog_1_method_22_code
def yX1_work : MethodName := ⟨RX1, "work", "(III)V"⟩
abbrev cX1_calculate : ByteArray := prog_1_method_23_code
def yX1_calculate : MethodName := ⟨RX1, "calculate", "(III)I"⟩
abbrev cX1_branch : ByteArray := prog_1_method_20_code
def yX1_branch : MethodName := ⟨RX1, "branch", "(IIII)V"⟩
abbrev cX1_pushPart : ByteArray := prog_1_method_21_code
def yX1_pushPart : MethodName := ⟨RX1, "pushPart", "(III)V"⟩
abbrev cX1_reg : ByteArray := prog_1_method_6_code
def yX1_reg : MethodName := ⟨RX1, "reg", "(II)I"⟩
abbrev cX1_isThread : ByteArray := prog_1_method_11_code
def yX1_isThread : MethodName := ⟨RX1, "isThread", "(I)Z"⟩
abbrev cX1_line : ByteArray := prog_1_method_7_code
def yX1_line : MethodName := ⟨RX1, "line", "(I)I"⟩
abbrev cX1_steps : ByteArray := prog_1_method_8_code
def yX1_steps : MethodName := ⟨RX1, "steps", "(I)I"⟩
abbrev cX1_state : ByteArray := prog_1_method_9_code
def yX1_state : MethodName := ⟨RX1, "state", "(I)I"⟩
abbrev cX1_output : ByteArray := prog_1_method_10_code
def yX1_output : MethodName := ⟨RX1, "output", "(I)I"⟩
theorem q16 : (Jvm.Cond.initialized "WarpMachine") ∈ lw_all := lw_g (lw_at lw_m1 1 rfl) rfl
theorem q19 : (Jvm.Cond.instantiable "WarpMachine" (19 : Nat)) ∈ lw_all := lw_g (lw_at lw_m1 4 rfl) rfl
theorem q21 : (Jvm.Cond.instanceMethod ({ cls := "WarpMachine", name := "<init>", desc := "(I)V" } : Jvm.MethodName)) ∈ lw_all := lw_g (lw_at lw_m1 6 rfl) rfl
theorem q22 : (Jvm.Cond.code ({ cls := "WarpMachine", name := "<init>", desc := "(I)V" } : Jvm.MethodName) prog_1_method_1_code (2 : Nat) (Option.none : Option Jvm.ClassFile.FieldType)) ∈ lw_all := lw_g (lw_at lw_m1 7 rfl) rfl
theorem q23 : (Jvm.Cond.methodLink "WarpMachine" (1 : Nat) ({ cls := "java/lang/Object", name := "<init>", desc := "()V" } : Jvm.MethodName)) ∈ lw_all := lw_g (lw_at lw_m1 8 rfl) rfl
theorem q26 : (Jvm.Cond.fieldLink "WarpMachine" (7 : Nat) "WarpMachine" "threads" "I") ∈ lw_all := lw_g (lw_at lw_m1 11 rfl) rfl
theorem q27 : (Jvm.Cond.fieldLink "WarpMachine" (60 : Nat) "WarpMachine" "lines" "I") ∈ lw_all := lw_g (lw_at lw_m1 12 rfl) rfl
theorem q28 : (Jvm.Cond.fieldLink "WarpMachine" (13 : Nat) "WarpMachine" "opOf" "[I") ∈ lw_all := lw_g (lw_at lw_m1 13 rfl) rfl
theorem q29 : (Jvm.Cond.fieldLink "WarpMachine" (17 : Nat) "WarpMachine" "aOf" "[I") ∈ lw_all := lw_g (lw_at lw_m1 14 rfl) rfl
theorem q30 : (Jvm.Cond.fieldLink "WarpMachine" (20 : Nat) "WarpMachine" "bOf" "[I") ∈ lw_all := lw_g (lw_at lw_m1 15 rfl) rfl
theorem q31 : (Jvm.Cond.fieldLink "WarpMachine" (23 : Nat) "WarpMachine" "cOf" "[I") ∈ lw_all := lw_g (lw_at lw_m1 16 rfl) rfl
theorem q32 : (Jvm.Cond.fieldLink "WarpMachine" (26 : Nat) "WarpMachine" "in" "[I") ∈ lw_all := lw_g (lw_at lw_m1 17 rfl) rfl
theorem q33 : (Jvm.Cond.fieldLink "WarpMachine" (29 : Nat) "WarpMachine" "out" "[I") ∈ lw_all := lw_g (lw_at lw_m1 18 rfl) rfl
theorem q34 : (Jvm.Cond.fieldLink "WarpMachine" (32 : Nat) "WarpMachine" "registers" "[I") ∈ lw_all := lw_g (lw_at lw_m1 19 rfl) rfl
theorem q35 : (Jvm.Cond.fieldLink "WarpMachine" (35 : Nat) "WarpMachine" "lineOf" "[I") ∈ lw_all := lw_g (lw_at lw_m1 20 rfl) rfl
theorem q36 : (Jvm.Cond.fieldLink "WarpMachine" (38 : Nat) "WarpMachine" "stepsOf" "[I") ∈ lw_all := lw_g (lw_at lw_m1 21 rfl) rfl
theorem q37 : (Jvm.Cond.fieldLink "WarpMachine" (41 : Nat) "WarpMachine" "stateOf" "[I") ∈ lw_all := lw_g (lw_at lw_m1 22 rfl) rfl
theorem q38 : (Jvm.Cond.fieldLink "WarpMachine" (44 : Nat) "WarpMachine" "passed" "[J") ∈ lw_all := lw_g (lw_at lw_m1 23 rfl) rfl
theorem q39 : (Jvm.Cond.fieldLink "WarpMachine" (48 : Nat) "WarpMachine" "meeting" "[I") ∈ lw_all := lw_g (lw_at lw_m1 24 rfl) rfl
theorem q40 : (Jvm.Cond.fieldLink "WarpMachine" (72 : Nat) "WarpMachine" "alive" "I") ∈ lw_all := lw_g (lw_at lw_m1 25 rfl) rfl
theorem q41 : (Jvm.Cond.fieldLink "WarpMachine" (69 : Nat) "WarpMachine" "depth" "I") ∈ lw_all := lw_g (lw_at lw_m1 26 rfl) rfl
theorem q42 : (Jvm.Cond.fieldLink "WarpMachine" (51 : Nat) "WarpMachine" "partLine" "[I") ∈ lw_all := lw_g (lw_at lw_m1 27 rfl) rfl
theorem q43 : (Jvm.Cond.fieldLink "WarpMachine" (54 : Nat) "WarpMachine" "partEnd" "[I") ∈ lw_all := lw_g (lw_at lw_m1 28 rfl) rfl
theorem q44 : (Jvm.Cond.fieldLink "WarpMachine" (57 : Nat) "WarpMachine" "partMask" "[I") ∈ lw_all := lw_g (lw_at lw_m1 29 rfl) rfl
theorem q45 : (Jvm.Cond.laysFinal "WarpMachine" "WarpMachine" "threads" "I") ∈ lw_all := lw_g (lw_at lw_m1 30 rfl) rfl
theorem q46 : (Jvm.Cond.soleField "WarpMachine" "threads") ∈ lw_all := lw_g (lw_at lw_m1 31 rfl) rfl
theorem q47 : (Jvm.Cond.lays "WarpMachine" "WarpMachine" "lines" "I") ∈ lw_all := lw_g (lw_at lw_m1 32 rfl) rfl
theorem q48 : (Jvm.Cond.soleField "WarpMachine" "lines") ∈ lw_all := lw_g (lw_at lw_m1 33 rfl) rfl
theorem q49 : (Jvm.Cond.laysFinal "WarpMachine" "WarpMachine" "opOf" "[I") ∈ lw_all := lw_g (lw_at lw_m1 34 rfl) rfl
theorem q50 : (Jvm.Cond.soleField "WarpMachine" "opOf") ∈ lw_all := lw_g (lw_at lw_m1 35 rfl) rfl
theorem q51 : (Jvm.Cond.laysFinal "WarpMachine" "WarpMachine" "aOf" "[I") ∈ lw_all := lw_g (lw_at lw_m1 36 rfl) rfl
theorem q52 : (Jvm.Cond.soleField "WarpMachine" "aOf") ∈ lw_all := lw_g (lw_at lw_m1 37 rfl) rfl
theorem q53 : (Jvm.Cond.laysFinal "WarpMachine" "WarpMachine" "bOf" "[I") ∈ lw_all := lw_g (lw_at lw_m1 38 rfl) rfl
theorem q54 : (Jvm.Cond.soleField "WarpMachine" "bOf") ∈ lw_all := lw_g (lw_at lw_m1 39 rfl) rfl
theorem q55 : (Jvm.Cond.laysFinal "WarpMachine" "WarpMachine" "cOf" "[I") ∈ lw_all := lw_g (lw_at lw_m1 40 rfl) rfl
theorem q56 : (Jvm.Cond.soleField "WarpMachine" "cOf") ∈ lw_all := lw_g (lw_at lw_m1 41 rfl) rfl
theorem q57 : (Jvm.Cond.laysFinal "WarpMachine" "WarpMachine" "in" "[I") ∈ lw_all := lw_g (lw_at lw_m1 42 rfl) rfl
theorem q58 : (Jvm.Cond.soleField "WarpMachine" "in") ∈ lw_all := lw_g (lw_at lw_m1 43 rfl) rfl
theorem q59 : (Jvm.Cond.laysFinal "WarpMachine" "WarpMachine" "out" "[I") ∈ lw_all := lw_g (lw_at lw_m1 44 rfl) rfl
theorem q60 : (Jvm.Cond.soleField "WarpMachine" "out") ∈ lw_all := lw_g (lw_at lw_m1 45 rfl) rfl
theorem q61 : (Jvm.Cond.laysFinal "WarpMachine" "WarpMachine" "registers" "[I") ∈ lw_all := lw_g (lw_at lw_m1 46 rfl) rfl
theorem q62 : (Jvm.Cond.soleField "WarpMachine" "registers") ∈ lw_all := lw_g (lw_at lw_m1 47 rfl) rfl
theorem q63 : (Jvm.Cond.laysFinal "WarpMachine" "WarpMachine" "lineOf" "[I") ∈ lw_all := lw_g (lw_at lw_m1 48 rfl) rfl
theorem q64 : (Jvm.Cond.soleField "WarpMachine" "lineOf") ∈ lw_all := lw_g (lw_at lw_m1 49 rfl) rfl
theorem q65 : (Jvm.Cond.laysFinal "WarpMachine" "WarpMachine" "stepsOf" "[I") ∈ lw_all := lw_g (lw_at lw_m1 50 rfl) rfl
theorem q66 : (Jvm.Cond.soleField "WarpMachine" "stepsOf") ∈ lw_all := lw_g (lw_at lw_m1 51 rfl) rfl
theorem q67 : (Jvm.Cond.laysFinal "WarpMachine" "WarpMachine" "stateOf" "[I") ∈ lw_all := lw_g (lw_at lw_m1 52 rfl) rfl
theorem q68 : (Jvm.Cond.soleField "WarpMachine" "stateOf") ∈ lw_all := lw_g (lw_at lw_m1 53 rfl) rfl
theorem q69 : (Jvm.Cond.laysFinal "WarpMachine" "WarpMachine" "passed" "[J") ∈ lw_all := lw_g (lw_at lw_m1 54 rfl) rfl
theorem q70 : (Jvm.Cond.soleField "WarpMachine" "passed") ∈ lw_all := lw_g (lw_at lw_m1 55 rfl) rfl
theorem q71 : (Jvm.Cond.laysFinal "WarpMachine" "WarpMachine" "meeting" "[I") ∈ lw_all := lw_g (lw_at lw_m1 56 rfl) rfl
theorem q72 : (Jvm.Cond.soleField "WarpMachine" "meeting") ∈ lw_all := lw_g (lw_at lw_m1 57 rfl) rfl
theorem q73 : (Jvm.Cond.lays "WarpMachine" "WarpMachine" "alive" "I") ∈ lw_all := lw_g (lw_at lw_m1 58 rfl) rfl
theorem q74 : (Jvm.Cond.soleField "WarpMachine" "alive") ∈ lw_all := lw_g (lw_at lw_m1 59 rfl) rfl
theorem q75 : (Jvm.Cond.lays "WarpMachine" "WarpMachine" "depth" "I") ∈ lw_all := lw_g (lw_at lw_m1 60 rfl) rfl
theorem q76 : (Jvm.Cond.soleField "WarpMachine" "depth") ∈ lw_all := lw_g (lw_at lw_m1 61 rfl) rfl
theorem q77 : (Jvm.Cond.laysFinal "WarpMachine" "WarpMachine" "partLine" "[I") ∈ lw_all := lw_g (lw_at lw_m1 62 rfl) rfl
theorem q78 : (Jvm.Cond.soleField "WarpMachine" "partLine") ∈ lw_all := lw_g (lw_at lw_m1 63 rfl) rfl
theorem q79 : (Jvm.Cond.laysFinal "WarpMachine" "WarpMachine" "partEnd" "[I") ∈ lw_all := lw_g (lw_at lw_m1 64 rfl) rfl
theorem q80 : (Jvm.Cond.soleField "WarpMachine" "partEnd") ∈ lw_all := lw_g (lw_at lw_m1 65 rfl) rfl
theorem q81 : (Jvm.Cond.laysFinal "WarpMachine" "WarpMachine" "partMask" "[I") ∈ lw_all := lw_g (lw_at lw_m1 66 rfl) rfl
theorem q82 : (Jvm.Cond.soleField "WarpMachine" "partMask") ∈ lw_all := lw_g (lw_at lw_m1 67 rfl) rfl
theorem q83 : (Jvm.Cond.superclass "WarpMachine" "java/lang/Object") ∈ lw_all := lw_g (lw_at lw_m1 68 rfl) rfl
theorem q87 : (Jvm.Cond.instanceMethod ({ cls := "WarpMachine", name := "emit", desc := "(IIII)I" } : Jvm.MethodName)) ∈ lw_all := lw_g (lw_at lw_m1 72 rfl) rfl
theorem q88 : (Jvm.Cond.selects "WarpMachine" ({ cls := "WarpMachine", name := "emit", desc := "(IIII)I" } : Jvm.MethodName) ({ cls := "WarpMachine", name := "emit", desc := "(IIII)I" } : Jvm.MethodName)) ∈ lw_all := lw_g (lw_at lw_m1 73 rfl) rfl
theorem q89 : (Jvm.Cond.code ({ cls := "WarpMachine", name := "emit", desc := "(IIII)I" } : Jvm.MethodName) prog_1_method_2_code (5 : Nat) (Option.some Jvm.ClassFile.FieldType.int)) ∈ lw_all := lw_g (lw_at lw_m1 74 rfl) rfl
theorem q91 : (Jvm.Cond.instanceMethod ({ cls := "WarpMachine", name := "clear", desc := "()V" } : Jvm.MethodName)) ∈ lw_all := lw_g (lw_at lw_m1 76 rfl) rfl
theorem q92 : (Jvm.Cond.selects "WarpMachine" ({ cls := "WarpMachine", name := "clear", desc := "()V" } : Jvm.MethodName) ({ cls := "WarpMachine", name := "clear", desc := "()V" } : Jvm.MethodName)) ∈ lw_all := lw_g (lw_at lw_m1 77 rfl) rfl
theorem q93 : (Jvm.Cond.code ({ cls := "WarpMachine", name := "clear", desc := "()V" } : Jvm.MethodName) prog_1_method_3_code (1 : Nat) (Option.none : Option Jvm.ClassFile.FieldType)) ∈ lw_all := lw_g (lw_at lw_m1 78 rfl) rfl
theorem q95 : (Jvm.Cond.instanceMethod ({ cls := "WarpMachine", name := "input", desc := "(II)V" } : Jvm.MethodName)) ∈ lw_all := lw_g (lw_at lw_m1 80 rfl) rfl
theorem q96 : (Jvm.Cond.selects "WarpMachine" ({ cls := "WarpMachine", name := "input", desc := "(II)V" } : Jvm.MethodName) ({ cls := "WarpMachine", name := "input", desc := "(II)V" } : Jvm.MethodName)) ∈ lw_all := lw_g (lw_at lw_m1 81 rfl) rfl
theorem q97 : (Jvm.Cond.code ({ cls := "WarpMachine", name := "input", desc := "(II)V" } : Jvm.MethodName) prog_1_method_4_code (3 : Nat) (Option.none : Option Jvm.ClassFile.FieldType)) ∈ lw_all := lw_g (lw_at lw_m1 82 rfl) rfl
theorem q99 : (Jvm.Cond.instanceMethod ({ cls := "WarpMachine", name := "run", desc := "()I" } : Jvm.MethodName)) ∈ lw_all := lw_g (lw_at lw_m1 84 rfl) rfl
theorem q100 : (Jvm.Cond.selects "WarpMachine" ({ cls := "WarpMachine", name := "run", desc := "()I" } : Jvm.MethodName) ({ cls := "WarpMachine", name := "run", desc := "()I" } : Jvm.MethodName)) ∈ lw_all := lw_g (lw_at lw_m1 85 rfl) rfl
theorem q101 : (Jvm.Cond.code ({ cls := "WarpMachine", name := "run", desc := "()I" } : Jvm.MethodName) prog_1_method_5_code (3 : Nat) (Option.some Jvm.ClassFile.FieldType.int)) ∈ lw_all := lw_g (lw_at lw_m1 86 rfl) rfl
theorem q102 : (Jvm.Cond.methodLink "WarpMachine" (63 : Nat) ({ cls := "WarpMachine", name := "findMeetings", desc := "()V" } : Jvm.MethodName)) ∈ lw_all := lw_g (lw_at lw_m1 87 rfl) rfl
theorem q103 : (Jvm.Cond.privateMethod ({ cls := "WarpMachine", name := "findMeetings", desc := "()V" } : Jvm.MethodName)) ∈ lw_tbl := lw_at lw_m1 88 rfl
theorem q104 : (Jvm.Cond.instanceMethod ({ cls := "WarpMachine", name := "findMeetings", desc := "()V" } : Jvm.MethodName)) ∈ lw_all := lw_g (lw_at lw_m1 89 rfl) rfl
theorem q105 : (Jvm.Cond.code ({ cls := "WarpMachine", name := "findMeetings", desc := "()V" } : Jvm.MethodName) prog_1_method_14_code (8 : Nat) (Option.none : Option Jvm.ClassFile.FieldType)) ∈ lw_all := lw_g (lw_at lw_m1 90 rfl) rfl
theorem q106 : (Jvm.Cond.methodLink "WarpMachine" (82 : Nat) ({ cls := "WarpMachine", name := "behind", desc := "(I)J" } : Jvm.MethodName)) ∈ lw_all := lw_g (lw_at lw_m1 91 rfl) rfl
theorem q107 : (Jvm.Cond.privateMethod ({ cls := "WarpMachine", name := "behind", desc := "(I)J" } : Jvm.MethodName)) ∈ lw_tbl := lw_at lw_m1 92 rfl
theorem q108 : (Jvm.Cond.instanceMethod ({ cls := "WarpMachine", name := "behind", desc := "(I)J" } : Jvm.MethodName)) ∈ lw_all := lw_g (lw_at lw_m1 93 rfl) rfl
theorem q109 : (Jvm.Cond.code ({ cls := "WarpMachine", name := "behind", desc := "(I)J" } : Jvm.MethodName) prog_1_method_15_code (4 : Nat) (Option.some Jvm.ClassFile.FieldType.long)) ∈ lw_all := lw_g (lw_at lw_m1 94 rfl) rfl
theorem q110 : (Jvm.Cond.methodLink "WarpMachine" (90 : Nat) ({ cls := "WarpMachine", name := "capped", desc := "(I)I" } : Jvm.MethodName)) ∈ lw_all := lw_g (lw_at lw_m1 95 rfl) rfl
theorem q111 : (Jvm.Cond.privateMethod ({ cls := "WarpMachine", name := "capped", desc := "(I)I" } : Jvm.MethodName)) ∈ lw_tbl := lw_at lw_m1 96 rfl
theorem q112 : (Jvm.Cond.instanceMethod ({ cls := "WarpMachine", name := "capped", desc := "(I)I" } : Jvm.MethodName)) ∈ lw_all := lw_g (lw_at lw_m1 97 rfl) rfl
theorem q113 : (Jvm.Cond.code ({ cls := "WarpMachine", name := "capped", desc := "(I)I" } : Jvm.MethodName) prog_1_method_13_code (2 : Nat) (Option.some Jvm.ClassFile.FieldType.int)) ∈ lw_all := lw_g (lw_at lw_m1 98 rfl) rfl
theorem q114 : (Jvm.Cond.methodLink "WarpMachine" (86 : Nat) ({ cls := "WarpMachine", name := "nearest", desc := "(I)I" } : Jvm.MethodName)) ∈ lw_all := lw_g (lw_at lw_m1 99 rfl) rfl
theorem q115 : (Jvm.Cond.privateMethod ({ cls := "WarpMachine", name := "nearest", desc := "(I)I" } : Jvm.MethodName)) ∈ lw_tbl := lw_at lw_m1 100 rfl
theorem q116 : (Jvm.Cond.instanceMethod ({ cls := "WarpMachine", name := "nearest", desc := "(I)I" } : Jvm.MethodName)) ∈ lw_all := lw_g (lw_at lw_m1 101 rfl) rfl
theorem q117 : (Jvm.Cond.code ({ cls := "WarpMachine", name := "nearest", desc := "(I)I" } : Jvm.MethodName) prog_1_method_16_code (5 : Nat) (Option.some Jvm.ClassFile.FieldType.int)) ∈ lw_all := lw_g (lw_at lw_m1 102 rfl) rfl
theorem q118 : (Jvm.Cond.constantLong "WarpMachine" (93 : Nat) (-1 : Int64)) ∈ lw_all := lw_g (lw_at lw_m1 103 rfl) rfl
theorem q119 : (Jvm.Cond.methodLink "WarpMachine" (66 : Nat) ({ cls := "WarpMachine", name := "reset", desc := "()V" } : Jvm.MethodName)) ∈ lw_all := lw_g (lw_at lw_m1 104 rfl) rfl
theorem q120 : (Jvm.Cond.privateMethod ({ cls := "WarpMachine", name := "reset", desc := "()V" } : Jvm.MethodName)) ∈ lw_tbl := lw_at lw_m1 105 rfl
theorem q121 : (Jvm.Cond.instanceMethod ({ cls := "WarpMachine", name := "reset", desc := "()V" } : Jvm.MethodName)) ∈ lw_all := lw_g (lw_at lw_m1 106 rfl) rfl
theorem q122 : (Jvm.Cond.code ({ cls := "WarpMachine", name := "reset", desc := "()V" } : Jvm.MethodName) prog_1_method_12_code (2 : Nat) (Option.none : Option Jvm.ClassFile.FieldType)) ∈ lw_all := lw_g (lw_at lw_m1 107 rfl) rfl
theorem q123 : (Jvm.Cond.methodLink "WarpMachine" (75 : Nat) ({ cls := "WarpMachine", name := "stepWarp", desc := "()V" } : Jvm.MethodName)) ∈ lw_all := lw_g (lw_at lw_m1 108 rfl) rfl
theorem q124 : (Jvm.Cond.privateMethod ({ cls := "WarpMachine", name := "stepWarp", desc := "()V" } : Jvm.MethodName)) ∈ lw_tbl := lw_at lw_m1 109 rfl
theorem q125 : (Jvm.Cond.instanceMethod ({ cls := "WarpMachine", name := "stepWarp", desc := "()V" } : Jvm.MethodName)) ∈ lw_all := lw_g (lw_at lw_m1 110 rfl) rfl
theorem q126 : (Jvm.Cond.code ({ cls := "WarpMachine", name := "stepWarp", desc := "()V" } : Jvm.MethodName) prog_1_method_17_code (6 : Nat) (Option.none : Option Jvm.ClassFile.FieldType)) ∈ lw_all := lw_g (lw_at lw_m1 111 rfl) rfl
theorem q127 : (Jvm.Cond.methodLink "WarpMachine" (95 : Nat) ({ cls := "WarpMachine", name := "endThreads", desc := "(III)V" } : Jvm.MethodName)) ∈ lw_all := lw_g (lw_at lw_m1 112 rfl) rfl
theorem q128 : (Jvm.Cond.privateMethod ({ cls := "WarpMachine", name := "endThreads", desc := "(III)V" } : Jvm.MethodName)) ∈ lw_tbl := lw_at lw_m1 113 rfl
theorem q129 : (Jvm.Cond.instanceMethod ({ cls := "WarpMachine", name := "endThreads", desc := "(III)V" } : Jvm.MethodName)) ∈ lw_all := lw_g (lw_at lw_m1 114 rfl) rfl
theorem q130 : (Jvm.Cond.code ({ cls := "WarpMachine", name := "endThreads", desc := "(III)V" } : Jvm.MethodName) prog_1_method_18_code (5 : Nat) (Option.none : Option Jvm.ClassFile.FieldType)) ∈ lw_all := lw_g (lw_at lw_m1 115 rfl) rfl
theorem q131 : (Jvm.Cond.methodLink "WarpMachine" (99 : Nat) ({ cls := "WarpMachine", name := "carryOut", desc := "(III)V" } : Jvm.MethodName)) ∈ lw_all := lw_g (lw_at lw_m1 116 rfl) rfl
theorem q132 : (Jvm.Cond.privateMethod ({ cls := "WarpMachine", name := "carryOut", desc := "(III)V" } : Jvm.MethodName)) ∈ lw_tbl := lw_at lw_m1 117 rfl
theorem q133 : (Jvm.Cond.instanceMethod ({ cls := "WarpMachine", name := "carryOut", desc := "(III)V" } : Jvm.MethodName)) ∈ lw_all := lw_g (lw_at lw_m1 118 rfl) rfl
theorem q134 : (Jvm.Cond.code ({ cls := "WarpMachine", name := "carryOut", desc := "(III)V" } : Jvm.MethodName) prog_1_method_19_code (7 : Nat) (Option.none : Option Jvm.ClassFile.FieldType)) ∈ lw_all := lw_g (lw_at lw_m1 119 rfl) rfl
theorem q135 : (Jvm.Cond.methodLink "WarpMachine" (102 : Nat) ({ cls := "WarpMachine", name := "work", desc := "(III)V" } : Jvm.MethodName)) ∈ lw_all := lw_g (lw_at lw_m1 120 rfl) rfl
theorem q136 : (Jvm.Cond.privateMethod ({ cls := "WarpMachine", name := "work", desc := "(III)V" } : Jvm.MethodName)) ∈ lw_tbl := lw_at lw_m1 121 rfl
theorem q137 : (Jvm.Cond.instanceMethod ({ cls := "WarpMachine", name := "work", desc := "(III)V" } : Jvm.MethodName)) ∈ lw_all := lw_g (lw_at lw_m1 122 rfl) rfl
theorem q138 : (Jvm.Cond.code ({ cls := "WarpMachine", name := "work", desc := "(III)V" } : Jvm.MethodName) prog_1_method_22_code (8 : Nat) (Option.none : Option Jvm.ClassFile.FieldType)) ∈ lw_all := lw_g (lw_at lw_m1 123 rfl) rfl
theorem q139 : (Jvm.Cond.methodLink "WarpMachine" (112 : Nat) ({ cls := "WarpMachine", name := "calculate", desc := "(III)I" } : Jvm.MethodName)) ∈ lw_all := lw_g (lw_at lw_m1 124 rfl) rfl
theorem q140 : (Jvm.Cond.static ({ cls := "WarpMachine", name := "calculate", desc := "(III)I" } : Jvm.MethodName)) ∈ lw_all := lw_g (lw_at lw_m1 125 rfl) rfl
theorem q141 : (Jvm.Cond.code ({ cls := "WarpMachine", name := "calculate", desc := "(III)I" } : Jvm.MethodName) prog_1_method_23_code (3 : Nat) (Option.some Jvm.ClassFile.FieldType.int)) ∈ lw_all := lw_g (lw_at lw_m1 126 rfl) rfl
theorem q142 : (Jvm.Cond.methodLink "WarpMachine" (105 : Nat) ({ cls := "WarpMachine", name := "branch", desc := "(IIII)V" } : Jvm.MethodName)) ∈ lw_all := lw_g (lw_at lw_m1 127 rfl) rfl
theorem q143 : (Jvm.Cond.privateMethod ({ cls := "WarpMachine", name := "branch", desc := "(IIII)V" } : Jvm.MethodName)) ∈ lw_tbl := lw_at lw_m1 128 rfl
theorem q144 : (Jvm.Cond.instanceMethod ({ cls := "WarpMachine", name := "branch", desc := "(IIII)V" } : Jvm.MethodName)) ∈ lw_all := lw_g (lw_at lw_m1 129 rfl) rfl
theorem q145 : (Jvm.Cond.code ({ cls := "WarpMachine", name := "branch", desc := "(IIII)V" } : Jvm.MethodName) prog_1_method_20_code (7 : Nat) (Option.none : Option Jvm.ClassFile.FieldType)) ∈ lw_all := lw_g (lw_at lw_m1 130 rfl) rfl
theorem q146 : (Jvm.Cond.methodLink "WarpMachine" (109 : Nat) ({ cls := "WarpMachine", name := "pushPart", desc := "(III)V" } : Jvm.MethodName)) ∈ lw_all := lw_g (lw_at lw_m1 131 rfl) rfl
theorem q147 : (Jvm.Cond.privateMethod ({ cls := "WarpMachine", name := "pushPart", desc := "(III)V" } : Jvm.MethodName)) ∈ lw_tbl := lw_at lw_m1 132 rfl
theorem q148 : (Jvm.Cond.instanceMethod ({ cls := "WarpMachine", name := "pushPart", desc := "(III)V" } : Jvm.MethodName)) ∈ lw_all := lw_g (lw_at lw_m1 133 rfl) rfl
theorem q149 : (Jvm.Cond.code ({ cls := "WarpMachine", name := "pushPart", desc := "(III)V" } : Jvm.MethodName) prog_1_method_21_code (4 : Nat) (Option.none : Option Jvm.ClassFile.FieldType)) ∈ lw_all := lw_g (lw_at lw_m1 134 rfl) rfl
theorem q151 : (Jvm.Cond.instanceMethod ({ cls := "WarpMachine", name := "reg", desc := "(II)I" } : Jvm.MethodName)) ∈ lw_all := lw_g (lw_at lw_m1 136 rfl) rfl
theorem q152 : (Jvm.Cond.selects "WarpMachine" ({ cls := "WarpMachine", name := "reg", desc := "(II)I" } : Jvm.MethodName) ({ cls := "WarpMachine", name := "reg", desc := "(II)I" } : Jvm.MethodName)) ∈ lw_all := lw_g (lw_at lw_m1 137 rfl) rfl
theorem q153 : (Jvm.Cond.code ({ cls := "WarpMachine", name := "reg", desc := "(II)I" } : Jvm.MethodName) prog_1_method_6_code (3 : Nat) (Option.some Jvm.ClassFile.FieldType.int)) ∈ lw_all := lw_g (lw_at lw_m1 138 rfl) rfl
theorem q154 : (Jvm.Cond.methodLink "WarpMachine" (78 : Nat) ({ cls := "WarpMachine", name := "isThread", desc := "(I)Z" } : Jvm.MethodName)) ∈ lw_all := lw_g (lw_at lw_m1 139 rfl) rfl
theorem q155 : (Jvm.Cond.privateMethod ({ cls := "WarpMachine", name := "isThread", desc := "(I)Z" } : Jvm.MethodName)) ∈ lw_tbl := lw_at lw_m1 140 rfl
theorem q156 : (Jvm.Cond.instanceMethod ({ cls := "WarpMachine", name := "isThread", desc := "(I)Z" } : Jvm.MethodName)) ∈ lw_all := lw_g (lw_at lw_m1 141 rfl) rfl
theorem q157 : (Jvm.Cond.code ({ cls := "WarpMachine", name := "isThread", desc := "(I)Z" } : Jvm.MethodName) prog_1_method_11_code (2 : Nat) (Option.some Jvm.ClassFile.FieldType.boolean)) ∈ lw_all := lw_g (lw_at lw_m1 142 rfl) rfl
theorem q159 : (Jvm.Cond.instanceMethod ({ cls := "WarpMachine", name := "line", desc := "(I)I" } : Jvm.MethodName)) ∈ lw_all := lw_g (lw_at lw_m1 144 rfl) rfl
theorem q160 : (Jvm.Cond.selects "WarpMachine" ({ cls := "WarpMachine", name := "line", desc := "(I)I" } : Jvm.MethodName) ({ cls := "WarpMachine", name := "line", desc := "(I)I" } : Jvm.MethodName)) ∈ lw_all := lw_g (lw_at lw_m1 145 rfl) rfl
theorem q161 : (Jvm.Cond.code ({ cls := "WarpMachine", name := "line", desc := "(I)I" } : Jvm.MethodName) prog_1_method_7_code (2 : Nat) (Option.some Jvm.ClassFile.FieldType.int)) ∈ lw_all := lw_g (lw_at lw_m1 146 rfl) rfl
theorem q163 : (Jvm.Cond.instanceMethod ({ cls := "WarpMachine", name := "steps", desc := "(I)I" } : Jvm.MethodName)) ∈ lw_all := lw_g (lw_at lw_m1 148 rfl) rfl
theorem q164 : (Jvm.Cond.selects "WarpMachine" ({ cls := "WarpMachine", name := "steps", desc := "(I)I" } : Jvm.MethodName) ({ cls := "WarpMachine", name := "steps", desc := "(I)I" } : Jvm.MethodName)) ∈ lw_all := lw_g (lw_at lw_m1 149 rfl) rfl
theorem q165 : (Jvm.Cond.code ({ cls := "WarpMachine", name := "steps", desc := "(I)I" } : Jvm.MethodName) prog_1_method_8_code (2 : Nat) (Option.some Jvm.ClassFile.FieldType.int)) ∈ lw_all := lw_g (lw_at lw_m1 150 rfl) rfl
theorem q167 : (Jvm.Cond.instanceMethod ({ cls := "WarpMachine", name := "state", desc := "(I)I" } : Jvm.MethodName)) ∈ lw_all := lw_g (lw_at lw_m1 152 rfl) rfl
theorem q168 : (Jvm.Cond.selects "WarpMachine" ({ cls := "WarpMachine", name := "state", desc := "(I)I" } : Jvm.MethodName) ({ cls := "WarpMachine", name := "state", desc := "(I)I" } : Jvm.MethodName)) ∈ lw_all := lw_g (lw_at lw_m1 153 rfl) rfl
theorem q169 : (Jvm.Cond.code ({ cls := "WarpMachine", name := "state", desc := "(I)I" } : Jvm.MethodName) prog_1_method_9_code (2 : Nat) (Option.some Jvm.ClassFile.FieldType.int)) ∈ lw_all := lw_g (lw_at lw_m1 154 rfl) rfl
theorem q171 : (Jvm.Cond.instanceMethod ({ cls := "WarpMachine", name := "output", desc := "(I)I" } : Jvm.MethodName)) ∈ lw_all := lw_g (lw_at lw_m1 156 rfl) rfl
theorem q172 : (Jvm.Cond.selects "WarpMachine" ({ cls := "WarpMachine", name := "output", desc := "(I)I" } : Jvm.MethodName) ({ cls := "WarpMachine", name := "output", desc := "(I)I" } : Jvm.MethodName)) ∈ lw_all := lw_g (lw_at lw_m1 157 rfl) rfl
theorem q173 : (Jvm.Cond.code ({ cls := "WarpMachine", name := "output", desc := "(I)I" } : Jvm.MethodName) prog_1_method_10_code (2 : Nat) (Option.some Jvm.ClassFile.FieldType.int)) ∈ lw_all := lw_g (lw_at lw_m1 158 rfl) rfl
theorem in_X1 : ∀ w ∈ wsX10, w ∈ lw_all := lw_in wsX10 [45, 47, 49, 51, 53, 55, 57, 59, 61, 63, 65, 67, 69, 71, 73, 75, 77, 79, 81] (by decide +kernel) (by decide +kernel)
/-! WarpMachineModel -/
def RX2 : String := "WarpMachineModel"
def TX2 : u_T := fun k => match k with
  | 0 => ("WarpMachineModel", "threads", "I", false)
  | 1 => ("WarpMachineModel", "lines", "I", false)
  | 2 => ("WarpMachineModel", "op", "[I", true)
  | 3 => ("WarpMachineModel", "fieldA", "[I", true)
  | 4 => ("WarpMachineModel", "fieldB", "[I", true)
  | 5 => ("WarpMachineModel", "fieldC", "[I", true)
  | 6 => ("WarpMachineModel", "in", "[I", true)
  | 7 => ("WarpMachineModel", "out", "[I", true)
  | 8 => ("WarpMachineModel", "regs", "[I", true)
  | 9 => ("WarpMachineModel", "at", "[I", true)
  | 10 => ("WarpMachineModel", "done", "[I", true)
  | _ => ("WarpMachineModel", "states", "[I", true)
def tyX2 : Nat → FieldType := fun k => match k with
  | 0 => .int
  | 1 => .int
  | 2 => .array .int
  | 3 => .array .int
  | 4 => .array .int
  | 5 => .array .int
  | 6 => .array .int
  | 7 => .array .int
  | 8 => .array .int
  | 9 => .array .int
  | 10 => .array .int
  | _ => .array .int
abbrev wsX20 : List Cond := u_ws RX2 TX2 12
theorem nmX2 : ∀ a, a < 12 → ∀ b, b < 12 → a ≠ b → (TX2 a).2.1 ≠ (TX2 b).2.1 := by decide +kernel
theorem tyX2_ok : ∀ k, k < 12 → parseFieldDescriptor (TX2 k).2.2.1 = some (tyX2 k) := by decide +kernel
abbrev cX2_init : ByteArray := prog_3_method_1_code
def yX2_init : MethodName := ⟨RX2, "<init>", "(I)V"⟩
abbrev cX2_emit : ByteArray := prog_3_method_2_code
def yX2_emit : MethodName := ⟨RX2, "emit", "(IIII)I"⟩
abbrev cX2_clear : ByteArray := prog_3_method_3_code
def yX2_clear : MethodName := ⟨RX2, "clear", "()V"⟩
abbrev cX2_input : ByteArray := prog_3_method_4_code
def yX2_input : MethodName := ⟨RX2, "input", "(II)V"⟩
abbrev cX2_run : ByteArray := prog_3_method_8_code
def yX2_run : MethodName := ⟨RX2, "run", "()I"⟩
abbrev cX2_runThread : ByteArray := prog_3_method_7_code
def yX2_runThread : MethodName := ⟨RX2, "runThread", "(I)V"⟩
abbrev cX2_carryOut : ByteArray := prog_3_method_6_code
def yX2_carryOut : MethodName := ⟨RX2, "carryOut", "(I)I"⟩
abbrev cX2_worked : ByteArray := prog_3_method_5_code
def yX2_worked : MethodName := ⟨RX2, "worked", "(III)I"⟩
abbrev cX2_reg : ByteArray := prog_3_method_10_code
def yX2_reg : MethodName := ⟨RX2, "reg", "(II)I"⟩
abbrev cX2_missing : ByteArray := prog_3_method_9_code
def yX2_missing : MethodName := ⟨RX2, "missing", "(I)Z"⟩
abbrev cX2_line : ByteArray := prog_3_method_11_code
def yX2_line : MethodName := ⟨RX2, "line", "(I)I"⟩
abbrev cX2_steps : ByteArray := prog_3_method_12_code
def yX2_steps : MethodName := ⟨RX2, "steps", "(I)I"⟩
abbrev cX2_state : ByteArray := prog_3_method_13_code
def yX2_state : MethodName := ⟨RX2, "state", "(I)I"⟩
abbrev cX2_output : ByteArray := prog_3_method_14_code
def yX2_output : MethodName := ⟨RX2, "output", "(I)I"⟩
theorem q17 : (Jvm.Cond.initialized "WarpMachineModel") ∈ lw_all := lw_g (lw_at lw_m1 2 rfl) rfl
theorem q178 : (Jvm.Cond.instantiable "WarpMachineModel" (12 : Nat)) ∈ lw_all := lw_g (lw_at lw_m1 163 rfl) rfl
theorem q180 : (Jvm.Cond.instanceMethod ({ cls := "WarpMachineModel", name := "<init>", desc := "(I)V" } : Jvm.MethodName)) ∈ lw_all := lw_g (lw_at lw_m1 165 rfl) rfl
theorem q181 : (Jvm.Cond.code ({ cls := "WarpMachineModel", name := "<init>", desc := "(I)V" } : Jvm.MethodName) prog_3_method_1_code (2 : Nat) (Option.none : Option Jvm.ClassFile.FieldType)) ∈ lw_all := lw_g (lw_at lw_m1 166 rfl) rfl
theorem q182 : (Jvm.Cond.methodLink "WarpMachineModel" (1 : Nat) ({ cls := "java/lang/Object", name := "<init>", desc := "()V" } : Jvm.MethodName)) ∈ lw_all := lw_g (lw_at lw_m1 167 rfl) rfl
theorem q183 : (Jvm.Cond.fieldLink "WarpMachineModel" (40 : Nat) "WarpMachineModel" "threads" "I") ∈ lw_all := lw_g (lw_at lw_m1 168 rfl) rfl
theorem q184 : (Jvm.Cond.fieldLink "WarpMachineModel" (44 : Nat) "WarpMachineModel" "lines" "I") ∈ lw_all := lw_g (lw_at lw_m1 169 rfl) rfl
theorem q185 : (Jvm.Cond.fieldLink "WarpMachineModel" (7 : Nat) "WarpMachineModel" "op" "[I") ∈ lw_all := lw_g (lw_at lw_m1 170 rfl) rfl
theorem q186 : (Jvm.Cond.fieldLink "WarpMachineModel" (13 : Nat) "WarpMachineModel" "fieldA" "[I") ∈ lw_all := lw_g (lw_at lw_m1 171 rfl) rfl
theorem q187 : (Jvm.Cond.fieldLink "WarpMachineModel" (16 : Nat) "WarpMachineModel" "fieldB" "[I") ∈ lw_all := lw_g (lw_at lw_m1 172 rfl) rfl
theorem q188 : (Jvm.Cond.fieldLink "WarpMachineModel" (19 : Nat) "WarpMachineModel" "fieldC" "[I") ∈ lw_all := lw_g (lw_at lw_m1 173 rfl) rfl
theorem q189 : (Jvm.Cond.fieldLink "WarpMachineModel" (22 : Nat) "WarpMachineModel" "in" "[I") ∈ lw_all := lw_g (lw_at lw_m1 174 rfl) rfl
theorem q190 : (Jvm.Cond.fieldLink "WarpMachineModel" (25 : Nat) "WarpMachineModel" "out" "[I") ∈ lw_all := lw_g (lw_at lw_m1 175 rfl) rfl
theorem q191 : (Jvm.Cond.fieldLink "WarpMachineModel" (28 : Nat) "WarpMachineModel" "regs" "[I") ∈ lw_all := lw_g (lw_at lw_m1 176 rfl) rfl
theorem q192 : (Jvm.Cond.fieldLink "WarpMachineModel" (31 : Nat) "WarpMachineModel" "at" "[I") ∈ lw_all := lw_g (lw_at lw_m1 177 rfl) rfl
theorem q193 : (Jvm.Cond.fieldLink "WarpMachineModel" (34 : Nat) "WarpMachineModel" "done" "[I") ∈ lw_all := lw_g (lw_at lw_m1 178 rfl) rfl
theorem q194 : (Jvm.Cond.fieldLink "WarpMachineModel" (37 : Nat) "WarpMachineModel" "states" "[I") ∈ lw_all := lw_g (lw_at lw_m1 179 rfl) rfl
theorem q195 : (Jvm.Cond.lays "WarpMachineModel" "WarpMachineModel" "threads" "I") ∈ lw_all := lw_g (lw_at lw_m1 180 rfl) rfl
theorem q196 : (Jvm.Cond.soleField "WarpMachineModel" "threads") ∈ lw_all := lw_g (lw_at lw_m1 181 rfl) rfl
theorem q197 : (Jvm.Cond.lays "WarpMachineModel" "WarpMachineModel" "lines" "I") ∈ lw_all := lw_g (lw_at lw_m1 182 rfl) rfl
theorem q198 : (Jvm.Cond.soleField "WarpMachineModel" "lines") ∈ lw_all := lw_g (lw_at lw_m1 183 rfl) rfl
theorem q199 : (Jvm.Cond.laysFinal "WarpMachineModel" "WarpMachineModel" "op" "[I") ∈ lw_all := lw_g (lw_at lw_m1 184 rfl) rfl
theorem q200 : (Jvm.Cond.soleField "WarpMachineModel" "op") ∈ lw_all := lw_g (lw_at lw_m1 185 rfl) rfl
theorem q201 : (Jvm.Cond.laysFinal "WarpMachineModel" "WarpMachineModel" "fieldA" "[I") ∈ lw_all := lw_g (lw_at lw_m1 186 rfl) rfl
theorem q202 : (Jvm.Cond.soleField "WarpMachineModel" "fieldA") ∈ lw_all := lw_g (lw_at lw_m1 187 rfl) rfl
theorem q203 : (Jvm.Cond.laysFinal "WarpMachineModel" "WarpMachineModel" "fieldB" "[I") ∈ lw_all := lw_g (lw_at lw_m1 188 rfl) rfl
theorem q204 : (Jvm.Cond.soleField "WarpMachineModel" "fieldB") ∈ lw_all := lw_g (lw_at lw_m1 189 rfl) rfl
theorem q205 : (Jvm.Cond.laysFinal "WarpMachineModel" "WarpMachineModel" "fieldC" "[I") ∈ lw_all := lw_g (lw_at lw_m1 190 rfl) rfl
theorem q206 : (Jvm.Cond.soleField "WarpMachineModel" "fieldC") ∈ lw_all := lw_g (lw_at lw_m1 191 rfl) rfl
theorem q207 : (Jvm.Cond.laysFinal "WarpMachineModel" "WarpMachineModel" "in" "[I") ∈ lw_all := lw_g (lw_at lw_m1 192 rfl) rfl
theorem q208 : (Jvm.Cond.soleField "WarpMachineModel" "in") ∈ lw_all := lw_g (lw_at lw_m1 193 rfl) rfl
theorem q209 : (Jvm.Cond.laysFinal "WarpMachineModel" "WarpMachineModel" "out" "[I") ∈ lw_all := lw_g (lw_at lw_m1 194 rfl) rfl
theorem q210 : (Jvm.Cond.soleField "WarpMachineModel" "out") ∈ lw_all := lw_g (lw_at lw_m1 195 rfl) rfl
theorem q211 : (Jvm.Cond.laysFinal "WarpMachineModel" "WarpMachineModel" "regs" "[I") ∈ lw_all := lw_g (lw_at lw_m1 196 rfl) rfl
theorem q212 : (Jvm.Cond.soleField "WarpMachineModel" "regs") ∈ lw_all := lw_g (lw_at lw_m1 197 rfl) rfl
theorem q213 : (Jvm.Cond.laysFinal "WarpMachineModel" "WarpMachineModel" "at" "[I") ∈ lw_all := lw_g (lw_at lw_m1 198 rfl) rfl
theorem q214 : (Jvm.Cond.soleField "WarpMachineModel" "at") ∈ lw_all := lw_g (lw_at lw_m1 199 rfl) rfl
theorem q215 : (Jvm.Cond.laysFinal "WarpMachineModel" "WarpMachineModel" "done" "[I") ∈ lw_all := lw_g (lw_at lw_m1 200 rfl) rfl
theorem q216 : (Jvm.Cond.soleField "WarpMachineModel" "done") ∈ lw_all := lw_g (lw_at lw_m1 201 rfl) rfl
theorem q217 : (Jvm.Cond.laysFinal "WarpMachineModel" "WarpMachineModel" "states" "[I") ∈ lw_all := lw_g (lw_at lw_m1 202 rfl) rfl
theorem q218 : (Jvm.Cond.soleField "WarpMachineModel" "states") ∈ lw_all := lw_g (lw_at lw_m1 203 rfl) rfl
theorem q219 : (Jvm.Cond.superclass "WarpMachineModel" "java/lang/Object") ∈ lw_all := lw_g (lw_at lw_m1 204 rfl) rfl
theorem q221 : (Jvm.Cond.instanceMethod ({ cls := "WarpMachineModel", name := "emit", desc := "(IIII)I" } : Jvm.MethodName)) ∈ lw_all := lw_g (lw_at lw_m1 206 rfl) rfl
theorem q222 : (Jvm.Cond.selects "WarpMachineModel" ({ cls := "WarpMachineModel", name := "emit", desc := "(IIII)I" } : Jvm.MethodName) ({ cls := "WarpMachineModel", name := "emit", desc := "(IIII)I" } : Jvm.MethodName)) ∈ lw_all := lw_g (lw_at lw_m1 207 rfl) rfl
theorem q223 : (Jvm.Cond.code ({ cls := "WarpMachineModel", name := "emit", desc := "(IIII)I" } : Jvm.MethodName) prog_3_method_2_code (5 : Nat) (Option.some Jvm.ClassFile.FieldType.int)) ∈ lw_all := lw_g (lw_at lw_m1 208 rfl) rfl
theorem q225 : (Jvm.Cond.instanceMethod ({ cls := "WarpMachineModel", name := "clear", desc := "()V" } : Jvm.MethodName)) ∈ lw_all := lw_g (lw_at lw_m1 210 rfl) rfl
theorem q226 : (Jvm.Cond.selects "WarpMachineModel" ({ cls := "WarpMachineModel", name := "clear", desc := "()V" } : Jvm.MethodName) ({ cls := "WarpMachineModel", name := "clear", desc := "()V" } : Jvm.MethodName)) ∈ lw_all := lw_g (lw_at lw_m1 211 rfl) rfl
theorem q227 : (Jvm.Cond.code ({ cls := "WarpMachineModel", name := "clear", desc := "()V" } : Jvm.MethodName) prog_3_method_3_code (1 : Nat) (Option.none : Option Jvm.ClassFile.FieldType)) ∈ lw_all := lw_g (lw_at lw_m1 212 rfl) rfl
theorem q229 : (Jvm.Cond.instanceMethod ({ cls := "WarpMachineModel", name := "input", desc := "(II)V" } : Jvm.MethodName)) ∈ lw_all := lw_g (lw_at lw_m1 214 rfl) rfl
theorem q230 : (Jvm.Cond.selects "WarpMachineModel" ({ cls := "WarpMachineModel", name := "input", desc := "(II)V" } : Jvm.MethodName) ({ cls := "WarpMachineModel", name := "input", desc := "(II)V" } : Jvm.MethodName)) ∈ lw_all := lw_g (lw_at lw_m1 215 rfl) rfl
theorem q231 : (Jvm.Cond.code ({ cls := "WarpMachineModel", name := "input", desc := "(II)V" } : Jvm.MethodName) prog_3_method_4_code (3 : Nat) (Option.none : Option Jvm.ClassFile.FieldType)) ∈ lw_all := lw_g (lw_at lw_m1 216 rfl) rfl
theorem q233 : (Jvm.Cond.instanceMethod ({ cls := "WarpMachineModel", name := "run", desc := "()I" } : Jvm.MethodName)) ∈ lw_all := lw_g (lw_at lw_m1 218 rfl) rfl
theorem q234 : (Jvm.Cond.selects "WarpMachineModel" ({ cls := "WarpMachineModel", name := "run", desc := "()I" } : Jvm.MethodName) ({ cls := "WarpMachineModel", name := "run", desc := "()I" } : Jvm.MethodName)) ∈ lw_all := lw_g (lw_at lw_m1 219 rfl) rfl
theorem q235 : (Jvm.Cond.code ({ cls := "WarpMachineModel", name := "run", desc := "()I" } : Jvm.MethodName) prog_3_method_8_code (3 : Nat) (Option.some Jvm.ClassFile.FieldType.int)) ∈ lw_all := lw_g (lw_at lw_m1 220 rfl) rfl
theorem q236 : (Jvm.Cond.methodLink "WarpMachineModel" (55 : Nat) ({ cls := "WarpMachineModel", name := "runThread", desc := "(I)V" } : Jvm.MethodName)) ∈ lw_all := lw_g (lw_at lw_m1 221 rfl) rfl
theorem q237 : (Jvm.Cond.privateMethod ({ cls := "WarpMachineModel", name := "runThread", desc := "(I)V" } : Jvm.MethodName)) ∈ lw_tbl := lw_at lw_m1 222 rfl
theorem q238 : (Jvm.Cond.instanceMethod ({ cls := "WarpMachineModel", name := "runThread", desc := "(I)V" } : Jvm.MethodName)) ∈ lw_all := lw_g (lw_at lw_m1 223 rfl) rfl
theorem q239 : (Jvm.Cond.code ({ cls := "WarpMachineModel", name := "runThread", desc := "(I)V" } : Jvm.MethodName) prog_3_method_7_code (3 : Nat) (Option.none : Option Jvm.ClassFile.FieldType)) ∈ lw_all := lw_g (lw_at lw_m1 224 rfl) rfl
theorem q240 : (Jvm.Cond.methodLink "WarpMachineModel" (51 : Nat) ({ cls := "WarpMachineModel", name := "carryOut", desc := "(I)I" } : Jvm.MethodName)) ∈ lw_all := lw_g (lw_at lw_m1 225 rfl) rfl
theorem q241 : (Jvm.Cond.privateMethod ({ cls := "WarpMachineModel", name := "carryOut", desc := "(I)I" } : Jvm.MethodName)) ∈ lw_tbl := lw_at lw_m1 226 rfl
theorem q242 : (Jvm.Cond.instanceMethod ({ cls := "WarpMachineModel", name := "carryOut", desc := "(I)I" } : Jvm.MethodName)) ∈ lw_all := lw_g (lw_at lw_m1 227 rfl) rfl
theorem q243 : (Jvm.Cond.code ({ cls := "WarpMachineModel", name := "carryOut", desc := "(I)I" } : Jvm.MethodName) prog_3_method_6_code (7 : Nat) (Option.some Jvm.ClassFile.FieldType.int)) ∈ lw_all := lw_g (lw_at lw_m1 228 rfl) rfl
theorem q244 : (Jvm.Cond.methodLink "WarpMachineModel" (47 : Nat) ({ cls := "WarpMachineModel", name := "worked", desc := "(III)I" } : Jvm.MethodName)) ∈ lw_all := lw_g (lw_at lw_m1 229 rfl) rfl
theorem q245 : (Jvm.Cond.static ({ cls := "WarpMachineModel", name := "worked", desc := "(III)I" } : Jvm.MethodName)) ∈ lw_all := lw_g (lw_at lw_m1 230 rfl) rfl
theorem q246 : (Jvm.Cond.code ({ cls := "WarpMachineModel", name := "worked", desc := "(III)I" } : Jvm.MethodName) prog_3_method_5_code (3 : Nat) (Option.some Jvm.ClassFile.FieldType.int)) ∈ lw_all := lw_g (lw_at lw_m1 231 rfl) rfl
theorem q248 : (Jvm.Cond.instanceMethod ({ cls := "WarpMachineModel", name := "reg", desc := "(II)I" } : Jvm.MethodName)) ∈ lw_all := lw_g (lw_at lw_m1 233 rfl) rfl
theorem q249 : (Jvm.Cond.selects "WarpMachineModel" ({ cls := "WarpMachineModel", name := "reg", desc := "(II)I" } : Jvm.MethodName) ({ cls := "WarpMachineModel", name := "reg", desc := "(II)I" } : Jvm.MethodName)) ∈ lw_all := lw_g (lw_at lw_m1 234 rfl) rfl
theorem q250 : (Jvm.Cond.code ({ cls := "WarpMachineModel", name := "reg", desc := "(II)I" } : Jvm.MethodName) prog_3_method_10_code (3 : Nat) (Option.some Jvm.ClassFile.FieldType.int)) ∈ lw_all := lw_g (lw_at lw_m1 235 rfl) rfl
theorem q251 : (Jvm.Cond.methodLink "WarpMachineModel" (59 : Nat) ({ cls := "WarpMachineModel", name := "missing", desc := "(I)Z" } : Jvm.MethodName)) ∈ lw_all := lw_g (lw_at lw_m1 236 rfl) rfl
theorem q252 : (Jvm.Cond.privateMethod ({ cls := "WarpMachineModel", name := "missing", desc := "(I)Z" } : Jvm.MethodName)) ∈ lw_tbl := lw_at lw_m1 237 rfl
theorem q253 : (Jvm.Cond.instanceMethod ({ cls := "WarpMachineModel", name := "missing", desc := "(I)Z" } : Jvm.MethodName)) ∈ lw_all := lw_g (lw_at lw_m1 238 rfl) rfl
theorem q254 : (Jvm.Cond.code ({ cls := "WarpMachineModel", name := "missing", desc := "(I)Z" } : Jvm.MethodName) prog_3_method_9_code (2 : Nat) (Option.some Jvm.ClassFile.FieldType.boolean)) ∈ lw_all := lw_g (lw_at lw_m1 239 rfl) rfl
theorem q256 : (Jvm.Cond.instanceMethod ({ cls := "WarpMachineModel", name := "line", desc := "(I)I" } : Jvm.MethodName)) ∈ lw_all := lw_g (lw_at lw_m2 1 rfl) rfl
theorem q257 : (Jvm.Cond.selects "WarpMachineModel" ({ cls := "WarpMachineModel", name := "line", desc := "(I)I" } : Jvm.MethodName) ({ cls := "WarpMachineModel", name := "line", desc := "(I)I" } : Jvm.MethodName)) ∈ lw_all := lw_g (lw_at lw_m2 2 rfl) rfl
theorem q258 : (Jvm.Cond.code ({ cls := "WarpMachineModel", name := "line", desc := "(I)I" } : Jvm.MethodName) prog_3_method_11_code (2 : Nat) (Option.some Jvm.ClassFile.FieldType.int)) ∈ lw_all := lw_g (lw_at lw_m2 3 rfl) rfl
theorem q260 : (Jvm.Cond.instanceMethod ({ cls := "WarpMachineModel", name := "steps", desc := "(I)I" } : Jvm.MethodName)) ∈ lw_all := lw_g (lw_at lw_m2 5 rfl) rfl
theorem q261 : (Jvm.Cond.selects "WarpMachineModel" ({ cls := "WarpMachineModel", name := "steps", desc := "(I)I" } : Jvm.MethodName) ({ cls := "WarpMachineModel", name := "steps", desc := "(I)I" } : Jvm.MethodName)) ∈ lw_all := lw_g (lw_at lw_m2 6 rfl) rfl
theorem q262 : (Jvm.Cond.code ({ cls := "WarpMachineModel", name := "steps", desc := "(I)I" } : Jvm.MethodName) prog_3_method_12_code (2 : Nat) (Option.some Jvm.ClassFile.FieldType.int)) ∈ lw_all := lw_g (lw_at lw_m2 7 rfl) rfl
theorem q264 : (Jvm.Cond.instanceMethod ({ cls := "WarpMachineModel", name := "state", desc := "(I)I" } : Jvm.MethodName)) ∈ lw_all := lw_g (lw_at lw_m2 9 rfl) rfl
theorem q265 : (Jvm.Cond.selects "WarpMachineModel" ({ cls := "WarpMachineModel", name := "state", desc := "(I)I" } : Jvm.MethodName) ({ cls := "WarpMachineModel", name := "state", desc := "(I)I" } : Jvm.MethodName)) ∈ lw_all := lw_g (lw_at lw_m2 10 rfl) rfl
theorem q266 : (Jvm.Cond.code ({ cls := "WarpMachineModel", name := "state", desc := "(I)I" } : Jvm.MethodName) prog_3_method_13_code (2 : Nat) (Option.some Jvm.ClassFile.FieldType.int)) ∈ lw_all := lw_g (lw_at lw_m2 11 rfl) rfl
theorem q268 : (Jvm.Cond.instanceMethod ({ cls := "WarpMachineModel", name := "output", desc := "(I)I" } : Jvm.MethodName)) ∈ lw_all := lw_g (lw_at lw_m2 13 rfl) rfl
theorem q269 : (Jvm.Cond.selects "WarpMachineModel" ({ cls := "WarpMachineModel", name := "output", desc := "(I)I" } : Jvm.MethodName) ({ cls := "WarpMachineModel", name := "output", desc := "(I)I" } : Jvm.MethodName)) ∈ lw_all := lw_g (lw_at lw_m2 14 rfl) rfl
theorem q270 : (Jvm.Cond.code ({ cls := "WarpMachineModel", name := "output", desc := "(I)I" } : Jvm.MethodName) prog_3_method_14_code (2 : Nat) (Option.some Jvm.ClassFile.FieldType.int)) ∈ lw_all := lw_g (lw_at lw_m2 15 rfl) rfl
theorem in_X2 : ∀ w ∈ wsX20, w ∈ lw_all := lw_in wsX20 [195, 197, 199, 201, 203, 205, 207, 209, 211, 213, 215, 217] (by decide +kernel) (by decide +kernel)
theorem q84 : (Jvm.Cond.arrayClass Jvm.ClassFile.FieldType.int) ∈ lw_all := lw_g (lw_at lw_m1 69 rfl) rfl
theorem q85 : (Jvm.Cond.arrayClass Jvm.ClassFile.FieldType.long) ∈ lw_all := lw_g (lw_at lw_m1 70 rfl) rfl
/-! the law's own entry -/
abbrev cL_law : ByteArray := code
end
section
set_option maxRecDepth 100000
theorem dX1_init_0 : decode cX1_init 0 = .ok (.aload_n 0, 1) := by decide +kernel
theorem dX1_init_1 : decode cX1_init 1 = .ok (.invokespecial 1, 3) := by decide +kernel
theorem dX1_init_4 : decode cX1_init 4 = .ok (.aload_n 0, 1) := by decide +kernel
theorem dX1_init_5 : decode cX1_init 5 = .ok (.iload_n 1, 1) := by decide +kernel
theorem dX1_init_6 : decode cX1_init 6 = .ok (.iconst 1, 1) := by decide +kernel
theorem dX1_init_7 : decode cX1_init 7 = .ok (.if_icmp .ge 7, 3) := by decide +kernel
theorem dX1_init_10 : decode cX1_init 10 = .ok (.iconst 1, 1) := by decide +kernel
theorem dX1_init_11 : decode cX1_init 11 = .ok (.goto 15, 3) := by decide +kernel
theorem dX1_init_14 : decode cX1_init 14 = .ok (.iload_n 1, 1) := by decide +kernel
theorem dX1_init_15 : decode cX1_init 15 = .ok (.bipush 8, 2) := by decide +kernel
theorem dX1_init_17 : decode cX1_init 17 = .ok (.if_icmp .le 8, 3) := by decide +kernel
theorem dX1_init_20 : decode cX1_init 20 = .ok (.bipush 8, 2) := by decide +kernel
theorem dX1_init_22 : decode cX1_init 22 = .ok (.goto 4, 3) := by decide +kernel
theorem dX1_init_25 : decode cX1_init 25 = .ok (.iload_n 1, 1) := by decide +kernel
theorem dX1_init_26 : decode cX1_init 26 = .ok (.putfield 7, 3) := by decide +kernel
theorem dX1_init_29 : decode cX1_init 29 = .ok (.aload_n 0, 1) := by decide +kernel
theorem dX1_init_30 : decode cX1_init 30 = .ok (.bipush 32, 2) := by decide +kernel
theorem dX1_init_32 : decode cX1_init 32 = .ok (.newarray .int, 2) := by decide +kernel
theorem dX1_init_34 : decode cX1_init 34 = .ok (.putfield 13, 3) := by decide +kernel
theorem dX1_init_37 : decode cX1_init 37 = .ok (.aload_n 0, 1) := by decide +kernel
theorem dX1_init_38 : decode cX1_init 38 = .ok (.bipush 32, 2) := by decide +kernel
theorem dX1_init_40 : decode cX1_init 40 = .ok (.newarray .int, 2) := by decide +kernel
theorem dX1_init_42 : decode cX1_init 42 = .ok (.putfield 17, 3) := by decide +kernel
theorem dX1_init_45 : decode cX1_init 45 = .ok (.aload_n 0, 1) := by decide +kernel
theorem dX1_init_46 : decode cX1_init 46 = .ok (.bipush 32, 2) := by decide +kernel
theorem dX1_init_48 : decode cX1_init 48 = .ok (.newarray .int, 2) := by decide +kernel
theorem dX1_init_50 : decode cX1_init 50 = .ok (.putfield 20, 3) := by decide +kernel
theorem dX1_init_53 : decode cX1_init 53 = .ok (.aload_n 0, 1) := by decide +kernel
theorem dX1_init_54 : decode cX1_init 54 = .ok (.bipush 32, 2) := by decide +kernel
theorem dX1_init_56 : decode cX1_init 56 = .ok (.newarray .int, 2) := by decide +kernel
theorem dX1_init_58 : decode cX1_init 58 = .ok (.putfield 23, 3) := by decide +kernel
theorem dX1_init_61 : decode cX1_init 61 = .ok (.aload_n 0, 1) := by decide +kernel
theorem dX1_init_62 : decode cX1_init 62 = .ok (.bipush 16, 2) := by decide +kernel
theorem dX1_init_64 : decode cX1_init 64 = .ok (.newarray .int, 2) := by decide +kernel
theorem dX1_init_66 : decode cX1_init 66 = .ok (.putfield 26, 3) := by decide +kernel
theorem dX1_init_69 : decode cX1_init 69 = .ok (.aload_n 0, 1) := by decide +kernel
theorem dX1_init_70 : decode cX1_init 70 = .ok (.bipush 16, 2) := by decide +kernel
theorem dX1_init_72 : decode cX1_init 72 = .ok (.newarray .int, 2) := by decide +kernel
theorem dX1_init_74 : decode cX1_init 74 = .ok (.putfield 29, 3) := by decide +kernel
theorem dX1_init_77 : decode cX1_init 77 = .ok (.aload_n 0, 1) := by decide +kernel
theorem dX1_init_78 : decode cX1_init 78 = .ok (.bipush 32, 2) := by decide +kernel
theorem dX1_init_80 : decode cX1_init 80 = .ok (.newarray .int, 2) := by decide +kernel
theorem dX1_init_82 : decode cX1_init 82 = .ok (.putfield 32, 3) := by decide +kernel
theorem dX1_init_85 : decode cX1_init 85 = .ok (.aload_n 0, 1) := by decide +kernel
theorem dX1_init_86 : decode cX1_init 86 = .ok (.bipush 8, 2) := by decide +kernel
theorem dX1_init_88 : decode cX1_init 88 = .ok (.newarray .int, 2) := by decide +kernel
theorem dX1_init_90 : decode cX1_init 90 = .ok (.putfield 35, 3) := by decide +kernel
theorem dX1_init_93 : decode cX1_init 93 = .ok (.aload_n 0, 1) := by decide +kernel
theorem dX1_init_94 : decode cX1_init 94 = .ok (.bipush 8, 2) := by decide +kernel
theorem dX1_init_96 : decode cX1_init 96 = .ok (.newarray .int, 2) := by decide +kernel
theorem dX1_init_98 : decode cX1_init 98 = .ok (.putfield 38, 3) := by decide +kernel
theorem dX1_init_101 : decode cX1_init 101 = .ok (.aload_n 0, 1) := by decide +kernel
theorem dX1_init_102 : decode cX1_init 102 = .ok (.bipush 8, 2) := by decide +kernel
theorem dX1_init_104 : decode cX1_init 104 = .ok (.newarray .int, 2) := by decide +kernel
theorem dX1_init_106 : decode cX1_init 106 = .ok (.putfield 41, 3) := by decide +kernel
theorem dX1_init_109 : decode cX1_init 109 = .ok (.aload_n 0, 1) := by decide +kernel
theorem dX1_init_110 : decode cX1_init 110 = .ok (.bipush 33, 2) := by decide +kernel
theorem dX1_init_112 : decode cX1_init 112 = .ok (.newarray .long, 2) := by decide +kernel
theorem dX1_init_114 : decode cX1_init 114 = .ok (.putfield 44, 3) := by decide +kernel
theorem dX1_init_117 : decode cX1_init 117 = .ok (.aload_n 0, 1) := by decide +kernel
theorem dX1_init_118 : decode cX1_init 118 = .ok (.bipush 33, 2) := by decide +kernel
theorem dX1_init_120 : decode cX1_init 120 = .ok (.newarray .int, 2) := by decide +kernel
theorem dX1_init_122 : decode cX1_init 122 = .ok (.putfield 48, 3) := by decide +kernel
theorem dX1_init_125 : decode cX1_init 125 = .ok (.aload_n 0, 1) := by decide +kernel
theorem dX1_init_126 : decode cX1_init 126 = .ok (.bipush 32, 2) := by decide +kernel
theorem dX1_init_128 : decode cX1_init 128 = .ok (.newarray .int, 2) := by decide +kernel
theorem dX1_init_130 : decode cX1_init 130 = .ok (.putfield 51, 3) := by decide +kernel
theorem dX1_init_133 : decode cX1_init 133 = .ok (.aload_n 0, 1) := by decide +kernel
theorem dX1_init_134 : decode cX1_init 134 = .ok (.bipush 32, 2) := by decide +kernel
theorem dX1_init_136 : decode cX1_init 136 = .ok (.newarray .int, 2) := by decide +kernel
theorem dX1_init_138 : decode cX1_init 138 = .ok (.putfield 54, 3) := by decide +kernel
theorem dX1_init_141 : decode cX1_init 141 = .ok (.aload_n 0, 1) := by decide +kernel
theorem dX1_init_142 : decode cX1_init 142 = .ok (.bipush 32, 2) := by decide +kernel
theorem dX1_init_144 : decode cX1_init 144 = .ok (.newarray .int, 2) := by decide +kernel
theorem dX1_init_146 : decode cX1_init 146 = .ok (.putfield 57, 3) := by decide +kernel
theorem dX1_init_149 : decode cX1_init 149 = .ok (.return_, 1) := by decide +kernel
theorem dX1_emit_0 : decode cX1_emit 0 = .ok (.iload_n 1, 1) := by decide +kernel
theorem dX1_emit_1 : decode cX1_emit 1 = .ok (.ifCond .lt 18, 3) := by decide +kernel
theorem dX1_emit_4 : decode cX1_emit 4 = .ok (.iload_n 1, 1) := by decide +kernel
theorem dX1_emit_5 : decode cX1_emit 5 = .ok (.bipush 11, 2) := by decide +kernel
theorem dX1_emit_7 : decode cX1_emit 7 = .ok (.if_icmp .gt 12, 3) := by decide +kernel
theorem dX1_emit_10 : decode cX1_emit 10 = .ok (.aload_n 0, 1) := by decide +kernel
theorem dX1_emit_11 : decode cX1_emit 11 = .ok (.getfield 60, 3) := by decide +kernel
theorem dX1_emit_14 : decode cX1_emit 14 = .ok (.bipush 32, 2) := by decide +kernel
theorem dX1_emit_16 : decode cX1_emit 16 = .ok (.if_icmp .lt 5, 3) := by decide +kernel
theorem dX1_emit_19 : decode cX1_emit 19 = .ok (.iconst (-1), 1) := by decide +kernel
theorem dX1_emit_20 : decode cX1_emit 20 = .ok (.ireturn, 1) := by decide +kernel
theorem dX1_emit_21 : decode cX1_emit 21 = .ok (.aload_n 0, 1) := by decide +kernel
theorem dX1_emit_22 : decode cX1_emit 22 = .ok (.getfield 13, 3) := by decide +kernel
theorem dX1_emit_25 : decode cX1_emit 25 = .ok (.aload_n 0, 1) := by decide +kernel
theorem dX1_emit_26 : decode cX1_emit 26 = .ok (.getfield 60, 3) := by decide +kernel
theorem dX1_emit_29 : decode cX1_emit 29 = .ok (.iload_n 1, 1) := by decide +kernel
theorem dX1_emit_30 : decode cX1_emit 30 = .ok (.iastore, 1) := by decide +kernel
theorem dX1_emit_31 : decode cX1_emit 31 = .ok (.aload_n 0, 1) := by decide +kernel
theorem dX1_emit_32 : decode cX1_emit 32 = .ok (.getfield 17, 3) := by decide +kernel
theorem dX1_emit_35 : decode cX1_emit 35 = .ok (.aload_n 0, 1) := by decide +kernel
theorem dX1_emit_36 : decode cX1_emit 36 = .ok (.getfield 60, 3) := by decide +kernel
theorem dX1_emit_39 : decode cX1_emit 39 = .ok (.iload_n 2, 1) := by decide +kernel
theorem dX1_emit_40 : decode cX1_emit 40 = .ok (.iastore, 1) := by decide +kernel
theorem dX1_emit_41 : decode cX1_emit 41 = .ok (.aload_n 0, 1) := by decide +kernel
theorem dX1_emit_42 : decode cX1_emit 42 = .ok (.getfield 20, 3) := by decide +kernel
theorem dX1_emit_45 : decode cX1_emit 45 = .ok (.aload_n 0, 1) := by decide +kernel
theorem dX1_emit_46 : decode cX1_emit 46 = .ok (.getfield 60, 3) := by decide +kernel
theorem dX1_emit_49 : decode cX1_emit 49 = .ok (.iload_n 3, 1) := by decide +kernel
theorem dX1_emit_50 : decode cX1_emit 50 = .ok (.iastore, 1) := by decide +kernel
theorem dX1_emit_51 : decode cX1_emit 51 = .ok (.aload_n 0, 1) := by decide +kernel
theorem dX1_emit_52 : decode cX1_emit 52 = .ok (.getfield 23, 3) := by decide +kernel
theorem dX1_emit_55 : decode cX1_emit 55 = .ok (.aload_n 0, 1) := by decide +kernel
theorem dX1_emit_56 : decode cX1_emit 56 = .ok (.getfield 60, 3) := by decide +kernel
theorem dX1_emit_59 : decode cX1_emit 59 = .ok (.iload 4, 2) := by decide +kernel
theorem dX1_emit_61 : decode cX1_emit 61 = .ok (.iastore, 1) := by decide +kernel
theorem dX1_emit_62 : decode cX1_emit 62 = .ok (.aload_n 0, 1) := by decide +kernel
theorem dX1_emit_63 : decode cX1_emit 63 = .ok (.dup, 1) := by decide +kernel
theorem dX1_emit_64 : decode cX1_emit 64 = .ok (.getfield 60, 3) := by decide +kernel
theorem dX1_emit_67 : decode cX1_emit 67 = .ok (.iconst 1, 1) := by decide +kernel
theorem dX1_emit_68 : decode cX1_emit 68 = .ok (.iadd, 1) := by decide +kernel
theorem dX1_emit_69 : decode cX1_emit 69 = .ok (.putfield 60, 3) := by decide +kernel
theorem dX1_emit_72 : decode cX1_emit 72 = .ok (.aload_n 0, 1) := by decide +kernel
theorem dX1_emit_73 : decode cX1_emit 73 = .ok (.getfield 60, 3) := by decide +kernel
theorem dX1_emit_76 : decode cX1_emit 76 = .ok (.ireturn, 1) := by decide +kernel
theorem dX1_clear_0 : decode cX1_clear 0 = .ok (.aload_n 0, 1) := by decide +kernel
theorem dX1_clear_1 : decode cX1_clear 1 = .ok (.iconst 0, 1) := by decide +kernel
theorem dX1_clear_2 : decode cX1_clear 2 = .ok (.putfield 60, 3) := by decide +kernel
theorem dX1_clear_5 : decode cX1_clear 5 = .ok (.return_, 1) := by decide +kernel
theorem dX1_input_0 : decode cX1_input 0 = .ok (.aload_n 0, 1) := by decide +kernel
theorem dX1_input_1 : decode cX1_input 1 = .ok (.getfield 26, 3) := by decide +kernel
theorem dX1_input_4 : decode cX1_input 4 = .ok (.iload_n 1, 1) := by decide +kernel
theorem dX1_input_5 : decode cX1_input 5 = .ok (.bipush 15, 2) := by decide +kernel
theorem dX1_input_7 : decode cX1_input 7 = .ok (.iand, 1) := by decide +kernel
theorem dX1_input_8 : decode cX1_input 8 = .ok (.iload_n 2, 1) := by decide +kernel
theorem dX1_input_9 : decode cX1_input 9 = .ok (.iastore, 1) := by decide +kernel
theorem dX1_input_10 : decode cX1_input 10 = .ok (.return_, 1) := by decide +kernel
theorem dX1_run_0 : decode cX1_run 0 = .ok (.aload_n 0, 1) := by decide +kernel
theorem dX1_run_1 : decode cX1_run 1 = .ok (.invokevirtual 63, 3) := by decide +kernel
theorem dX1_run_4 : decode cX1_run 4 = .ok (.aload_n 0, 1) := by decide +kernel
theorem dX1_run_5 : decode cX1_run 5 = .ok (.invokevirtual 66, 3) := by decide +kernel
theorem dX1_run_8 : decode cX1_run 8 = .ok (.aload_n 0, 1) := by decide +kernel
theorem dX1_run_9 : decode cX1_run 9 = .ok (.iconst 1, 1) := by decide +kernel
theorem dX1_run_10 : decode cX1_run 10 = .ok (.putfield 69, 3) := by decide +kernel
theorem dX1_run_13 : decode cX1_run 13 = .ok (.aload_n 0, 1) := by decide +kernel
theorem dX1_run_14 : decode cX1_run 14 = .ok (.getfield 51, 3) := by decide +kernel
theorem dX1_run_17 : decode cX1_run 17 = .ok (.iconst 0, 1) := by decide +kernel
theorem dX1_run_18 : decode cX1_run 18 = .ok (.iconst 0, 1) := by decide +kernel
theorem dX1_run_19 : decode cX1_run 19 = .ok (.iastore, 1) := by decide +kernel
theorem dX1_run_20 : decode cX1_run 20 = .ok (.aload_n 0, 1) := by decide +kernel
theorem dX1_run_21 : decode cX1_run 21 = .ok (.getfield 54, 3) := by decide +kernel
theorem dX1_run_24 : decode cX1_run 24 = .ok (.iconst 0, 1) := by decide +kernel
theorem dX1_run_25 : decode cX1_run 25 = .ok (.iconst (-1), 1) := by decide +kernel
theorem dX1_run_26 : decode cX1_run 26 = .ok (.iastore, 1) := by decide +kernel
theorem dX1_run_27 : decode cX1_run 27 = .ok (.aload_n 0, 1) := by decide +kernel
theorem dX1_run_28 : decode cX1_run 28 = .ok (.getfield 57, 3) := by decide +kernel
theorem dX1_run_31 : decode cX1_run 31 = .ok (.iconst 0, 1) := by decide +kernel
theorem dX1_run_32 : decode cX1_run 32 = .ok (.aload_n 0, 1) := by decide +kernel
theorem dX1_run_33 : decode cX1_run 33 = .ok (.getfield 72, 3) := by decide +kernel
theorem dX1_run_36 : decode cX1_run 36 = .ok (.iastore, 1) := by decide +kernel
theorem dX1_run_37 : decode cX1_run 37 = .ok (.iconst 0, 1) := by decide +kernel
theorem dX1_run_38 : decode cX1_run 38 = .ok (.istore_n 1, 1) := by decide +kernel
theorem dX1_run_39 : decode cX1_run 39 = .ok (.iload_n 1, 1) := by decide +kernel
theorem dX1_run_40 : decode cX1_run 40 = .ok (.sipush 2000, 3) := by decide +kernel
theorem dX1_run_43 : decode cX1_run 43 = .ok (.if_icmp .ge 20, 3) := by decide +kernel
theorem dX1_run_46 : decode cX1_run 46 = .ok (.aload_n 0, 1) := by decide +kernel
theorem dX1_run_47 : decode cX1_run 47 = .ok (.getfield 69, 3) := by decide +kernel
theorem dX1_run_50 : decode cX1_run 50 = .ok (.ifCond .le 13, 3) := by decide +kernel
theorem dX1_run_53 : decode cX1_run 53 = .ok (.aload_n 0, 1) := by decide +kernel
theorem dX1_run_54 : decode cX1_run 54 = .ok (.invokevirtual 75, 3) := by decide +kernel
theorem dX1_run_57 : decode cX1_run 57 = .ok (.iinc 1 1, 3) := by decide +kernel
theorem dX1_run_60 : decode cX1_run 60 = .ok (.goto (-21), 3) := by decide +kernel
theorem dX1_run_63 : decode cX1_run 63 = .ok (.iconst 0, 1) := by decide +kernel
theorem dX1_run_64 : decode cX1_run 64 = .ok (.istore_n 1, 1) := by decide +kernel
theorem dX1_run_65 : decode cX1_run 65 = .ok (.iconst 0, 1) := by decide +kernel
theorem dX1_run_66 : decode cX1_run 66 = .ok (.istore_n 2, 1) := by decide +kernel
theorem dX1_run_67 : decode cX1_run 67 = .ok (.iload_n 2, 1) := by decide +kernel
theorem dX1_run_68 : decode cX1_run 68 = .ok (.aload_n 0, 1) := by decide +kernel
theorem dX1_run_69 : decode cX1_run 69 = .ok (.getfield 7, 3) := by decide +kernel
theorem dX1_run_72 : decode cX1_run 72 = .ok (.if_icmp .ge 27, 3) := by decide +kernel
theorem dX1_run_75 : decode cX1_run 75 = .ok (.iload_n 1, 1) := by decide +kernel
theorem dX1_run_76 : decode cX1_run 76 = .ok (.aload_n 0, 1) := by decide +kernel
theorem dX1_run_77 : decode cX1_run 77 = .ok (.getfield 41, 3) := by decide +kernel
theorem dX1_run_80 : decode cX1_run 80 = .ok (.iload_n 2, 1) := by decide +kernel
theorem dX1_run_81 : decode cX1_run 81 = .ok (.iaload, 1) := by decide +kernel
theorem dX1_run_82 : decode cX1_run 82 = .ok (.iconst 1, 1) := by decide +kernel
theorem dX1_run_83 : decode cX1_run 83 = .ok (.if_icmp .ne 7, 3) := by decide +kernel
theorem dX1_run_86 : decode cX1_run 86 = .ok (.iconst 1, 1) := by decide +kernel
theorem dX1_run_87 : decode cX1_run 87 = .ok (.goto 4, 3) := by decide +kernel
theorem dX1_run_90 : decode cX1_run 90 = .ok (.iconst 0, 1) := by decide +kernel
theorem dX1_run_91 : decode cX1_run 91 = .ok (.iadd, 1) := by decide +kernel
theorem dX1_run_92 : decode cX1_run 92 = .ok (.istore_n 1, 1) := by decide +kernel
theorem dX1_run_93 : decode cX1_run 93 = .ok (.iinc 2 1, 3) := by decide +kernel
theorem dX1_run_96 : decode cX1_run 96 = .ok (.goto (-29), 3) := by decide +kernel
theorem dX1_run_99 : decode cX1_run 99 = .ok (.iload_n 1, 1) := by decide +kernel
theorem dX1_run_100 : decode cX1_run 100 = .ok (.ireturn, 1) := by decide +kernel
theorem dX1_findMeetings_0 : decode cX1_findMeetings 0 = .ok (.lconst 1, 1) := by decide +kernel
theorem dX1_findMeetings_1 : decode cX1_findMeetings 1 = .ok (.aload_n 0, 1) := by decide +kernel
theorem dX1_findMeetings_2 : decode cX1_findMeetings 2 = .ok (.getfield 60, 3) := by decide +kernel
theorem dX1_findMeetings_5 : decode cX1_findMeetings 5 = .ok (.iconst 1, 1) := by decide +kernel
theorem dX1_findMeetings_6 : decode cX1_findMeetings 6 = .ok (.iadd, 1) := by decide +kernel
theorem dX1_findMeetings_7 : decode cX1_findMeetings 7 = .ok (.lshl, 1) := by decide +kernel
theorem dX1_findMeetings_8 : decode cX1_findMeetings 8 = .ok (.lconst 1, 1) := by decide +kernel
theorem dX1_findMeetings_9 : decode cX1_findMeetings 9 = .ok (.lsub, 1) := by decide +kernel
theorem dX1_findMeetings_10 : decode cX1_findMeetings 10 = .ok (.lstore_n 1, 1) := by decide +kernel
theorem dX1_findMeetings_11 : decode cX1_findMeetings 11 = .ok (.iconst 0, 1) := by decide +kernel
theorem dX1_findMeetings_12 : decode cX1_findMeetings 12 = .ok (.istore_n 3, 1) := by decide +kernel
theorem dX1_findMeetings_13 : decode cX1_findMeetings 13 = .ok (.iload_n 3, 1) := by decide +kernel
theorem dX1_findMeetings_14 : decode cX1_findMeetings 14 = .ok (.aload_n 0, 1) := by decide +kernel
theorem dX1_findMeetings_15 : decode cX1_findMeetings 15 = .ok (.getfield 60, 3) := by decide +kernel
theorem dX1_findMeetings_18 : decode cX1_findMeetings 18 = .ok (.if_icmp .ge 16, 3) := by decide +kernel
theorem dX1_findMeetings_21 : decode cX1_findMeetings 21 = .ok (.aload_n 0, 1) := by decide +kernel
theorem dX1_findMeetings_22 : decode cX1_findMeetings 22 = .ok (.getfield 44, 3) := by decide +kernel
theorem dX1_findMeetings_25 : decode cX1_findMeetings 25 = .ok (.iload_n 3, 1) := by decide +kernel
theorem dX1_findMeetings_26 : decode cX1_findMeetings 26 = .ok (.lload_n 1, 1) := by decide +kernel
theorem dX1_findMeetings_27 : decode cX1_findMeetings 27 = .ok (.lastore, 1) := by decide +kernel
theorem dX1_findMeetings_28 : decode cX1_findMeetings 28 = .ok (.iinc 3 1, 3) := by decide +kernel
theorem dX1_findMeetings_31 : decode cX1_findMeetings 31 = .ok (.goto (-18), 3) := by decide +kernel
theorem dX1_findMeetings_34 : decode cX1_findMeetings 34 = .ok (.aload_n 0, 1) := by decide +kernel
theorem dX1_findMeetings_35 : decode cX1_findMeetings 35 = .ok (.getfield 44, 3) := by decide +kernel
theorem dX1_findMeetings_38 : decode cX1_findMeetings 38 = .ok (.aload_n 0, 1) := by decide +kernel
theorem dX1_findMeetings_39 : decode cX1_findMeetings 39 = .ok (.getfield 60, 3) := by decide +kernel
theorem dX1_findMeetings_42 : decode cX1_findMeetings 42 = .ok (.lconst 1, 1) := by decide +kernel
theorem dX1_findMeetings_43 : decode cX1_findMeetings 43 = .ok (.aload_n 0, 1) := by decide +kernel
theorem dX1_findMeetings_44 : decode cX1_findMeetings 44 = .ok (.getfield 60, 3) := by decide +kernel
theorem dX1_findMeetings_47 : decode cX1_findMeetings 47 = .ok (.lshl, 1) := by decide +kernel
theorem dX1_findMeetings_48 : decode cX1_findMeetings 48 = .ok (.lastore, 1) := by decide +kernel
theorem dX1_findMeetings_49 : decode cX1_findMeetings 49 = .ok (.iconst 1, 1) := by decide +kernel
theorem dX1_findMeetings_50 : decode cX1_findMeetings 50 = .ok (.istore_n 3, 1) := by decide +kernel
theorem dX1_findMeetings_51 : decode cX1_findMeetings 51 = .ok (.iconst 0, 1) := by decide +kernel
theorem dX1_findMeetings_52 : decode cX1_findMeetings 52 = .ok (.istore 4, 2) := by decide +kernel
theorem dX1_findMeetings_54 : decode cX1_findMeetings 54 = .ok (.iload 4, 2) := by decide +kernel
theorem dX1_findMeetings_56 : decode cX1_findMeetings 56 = .ok (.bipush 40, 2) := by decide +kernel
theorem dX1_findMeetings_58 : decode cX1_findMeetings 58 = .ok (.if_icmp .ge 79, 3) := by decide +kernel
theorem dX1_findMeetings_61 : decode cX1_findMeetings 61 = .ok (.iload_n 3, 1) := by decide +kernel
theorem dX1_findMeetings_62 : decode cX1_findMeetings 62 = .ok (.ifCond .eq 75, 3) := by decide +kernel
theorem dX1_findMeetings_65 : decode cX1_findMeetings 65 = .ok (.iconst 0, 1) := by decide +kernel
theorem dX1_findMeetings_66 : decode cX1_findMeetings 66 = .ok (.istore_n 3, 1) := by decide +kernel
theorem dX1_findMeetings_67 : decode cX1_findMeetings 67 = .ok (.aload_n 0, 1) := by decide +kernel
theorem dX1_findMeetings_68 : decode cX1_findMeetings 68 = .ok (.getfield 60, 3) := by decide +kernel
theorem dX1_findMeetings_71 : decode cX1_findMeetings 71 = .ok (.iconst 1, 1) := by decide +kernel
theorem dX1_findMeetings_72 : decode cX1_findMeetings 72 = .ok (.isub, 1) := by decide +kernel
theorem dX1_findMeetings_73 : decode cX1_findMeetings 73 = .ok (.istore 5, 2) := by decide +kernel
theorem dX1_findMeetings_75 : decode cX1_findMeetings 75 = .ok (.iload 5, 2) := by decide +kernel
theorem dX1_findMeetings_77 : decode cX1_findMeetings 77 = .ok (.ifCond .lt 54, 3) := by decide +kernel
theorem dX1_findMeetings_80 : decode cX1_findMeetings 80 = .ok (.aload_n 0, 1) := by decide +kernel
theorem dX1_findMeetings_81 : decode cX1_findMeetings 81 = .ok (.iload 5, 2) := by decide +kernel
theorem dX1_findMeetings_83 : decode cX1_findMeetings 83 = .ok (.invokevirtual 82, 3) := by decide +kernel
theorem dX1_findMeetings_86 : decode cX1_findMeetings 86 = .ok (.lconst 1, 1) := by decide +kernel
theorem dX1_findMeetings_87 : decode cX1_findMeetings 87 = .ok (.iload 5, 2) := by decide +kernel
theorem dX1_findMeetings_89 : decode cX1_findMeetings 89 = .ok (.lshl, 1) := by decide +kernel
theorem dX1_findMeetings_90 : decode cX1_findMeetings 90 = .ok (.lor, 1) := by decide +kernel
theorem dX1_findMeetings_91 : decode cX1_findMeetings 91 = .ok (.lstore 6, 2) := by decide +kernel
theorem dX1_findMeetings_93 : decode cX1_findMeetings 93 = .ok (.iload_n 3, 1) := by decide +kernel
theorem dX1_findMeetings_94 : decode cX1_findMeetings 94 = .ok (.ifCond .ne 16, 3) := by decide +kernel
theorem dX1_findMeetings_97 : decode cX1_findMeetings 97 = .ok (.lload 6, 2) := by decide +kernel
theorem dX1_findMeetings_99 : decode cX1_findMeetings 99 = .ok (.aload_n 0, 1) := by decide +kernel
theorem dX1_findMeetings_100 : decode cX1_findMeetings 100 = .ok (.getfield 44, 3) := by decide +kernel
theorem dX1_findMeetings_103 : decode cX1_findMeetings 103 = .ok (.iload 5, 2) := by decide +kernel
theorem dX1_findMeetings_105 : decode cX1_findMeetings 105 = .ok (.laload, 1) := by decide +kernel
theorem dX1_findMeetings_106 : decode cX1_findMeetings 106 = .ok (.lcmp, 1) := by decide +kernel
theorem dX1_findMeetings_107 : decode cX1_findMeetings 107 = .ok (.ifCond .eq 7, 3) := by decide +kernel
theorem dX1_findMeetings_110 : decode cX1_findMeetings 110 = .ok (.iconst 1, 1) := by decide +kernel
theorem dX1_findMeetings_111 : decode cX1_findMeetings 111 = .ok (.goto 4, 3) := by decide +kernel
theorem dX1_findMeetings_114 : decode cX1_findMeetings 114 = .ok (.iconst 0, 1) := by decide +kernel
theorem dX1_findMeetings_115 : decode cX1_findMeetings 115 = .ok (.istore_n 3, 1) := by decide +kernel
theorem dX1_findMeetings_116 : decode cX1_findMeetings 116 = .ok (.aload_n 0, 1) := by decide +kernel
theorem dX1_findMeetings_117 : decode cX1_findMeetings 117 = .ok (.getfield 44, 3) := by decide +kernel
theorem dX1_findMeetings_120 : decode cX1_findMeetings 120 = .ok (.iload 5, 2) := by decide +kernel
theorem dX1_findMeetings_122 : decode cX1_findMeetings 122 = .ok (.lload 6, 2) := by decide +kernel
theorem dX1_findMeetings_124 : decode cX1_findMeetings 124 = .ok (.lastore, 1) := by decide +kernel
theorem dX1_findMeetings_125 : decode cX1_findMeetings 125 = .ok (.iinc 5 (-1), 3) := by decide +kernel
theorem dX1_findMeetings_128 : decode cX1_findMeetings 128 = .ok (.goto (-53), 3) := by decide +kernel
theorem dX1_findMeetings_131 : decode cX1_findMeetings 131 = .ok (.iinc 4 1, 3) := by decide +kernel
theorem dX1_findMeetings_134 : decode cX1_findMeetings 134 = .ok (.goto (-80), 3) := by decide +kernel
theorem dX1_findMeetings_137 : decode cX1_findMeetings 137 = .ok (.iconst 0, 1) := by decide +kernel
theorem dX1_findMeetings_138 : decode cX1_findMeetings 138 = .ok (.istore 4, 2) := by decide +kernel
theorem dX1_findMeetings_140 : decode cX1_findMeetings 140 = .ok (.iload 4, 2) := by decide +kernel
theorem dX1_findMeetings_142 : decode cX1_findMeetings 142 = .ok (.aload_n 0, 1) := by decide +kernel
theorem dX1_findMeetings_143 : decode cX1_findMeetings 143 = .ok (.getfield 60, 3) := by decide +kernel
theorem dX1_findMeetings_146 : decode cX1_findMeetings 146 = .ok (.if_icmp .ge 22, 3) := by decide +kernel
theorem dX1_findMeetings_149 : decode cX1_findMeetings 149 = .ok (.aload_n 0, 1) := by decide +kernel
theorem dX1_findMeetings_150 : decode cX1_findMeetings 150 = .ok (.getfield 48, 3) := by decide +kernel
theorem dX1_findMeetings_153 : decode cX1_findMeetings 153 = .ok (.iload 4, 2) := by decide +kernel
theorem dX1_findMeetings_155 : decode cX1_findMeetings 155 = .ok (.aload_n 0, 1) := by decide +kernel
theorem dX1_findMeetings_156 : decode cX1_findMeetings 156 = .ok (.iload 4, 2) := by decide +kernel
theorem dX1_findMeetings_158 : decode cX1_findMeetings 158 = .ok (.invokevirtual 86, 3) := by decide +kernel
theorem dX1_findMeetings_161 : decode cX1_findMeetings 161 = .ok (.iastore, 1) := by decide +kernel
theorem dX1_findMeetings_162 : decode cX1_findMeetings 162 = .ok (.iinc 4 1, 3) := by decide +kernel
theorem dX1_findMeetings_165 : decode cX1_findMeetings 165 = .ok (.goto (-25), 3) := by decide +kernel
theorem dX1_findMeetings_168 : decode cX1_findMeetings 168 = .ok (.return_, 1) := by decide +kernel
theorem dX1_behind_0 : decode cX1_behind 0 = .ok (.aload_n 0, 1) := by decide +kernel
theorem dX1_behind_1 : decode cX1_behind 1 = .ok (.getfield 13, 3) := by decide +kernel
theorem dX1_behind_4 : decode cX1_behind 4 = .ok (.iload_n 1, 1) := by decide +kernel
theorem dX1_behind_5 : decode cX1_behind 5 = .ok (.iaload, 1) := by decide +kernel
theorem dX1_behind_6 : decode cX1_behind 6 = .ok (.bipush 11, 2) := by decide +kernel
theorem dX1_behind_8 : decode cX1_behind 8 = .ok (.if_icmp .ne 13, 3) := by decide +kernel
theorem dX1_behind_11 : decode cX1_behind 11 = .ok (.aload_n 0, 1) := by decide +kernel
theorem dX1_behind_12 : decode cX1_behind 12 = .ok (.getfield 44, 3) := by decide +kernel
theorem dX1_behind_15 : decode cX1_behind 15 = .ok (.aload_n 0, 1) := by decide +kernel
theorem dX1_behind_16 : decode cX1_behind 16 = .ok (.getfield 60, 3) := by decide +kernel
theorem dX1_behind_19 : decode cX1_behind 19 = .ok (.laload, 1) := by decide +kernel
theorem dX1_behind_20 : decode cX1_behind 20 = .ok (.lreturn, 1) := by decide +kernel
theorem dX1_behind_21 : decode cX1_behind 21 = .ok (.aload_n 0, 1) := by decide +kernel
theorem dX1_behind_22 : decode cX1_behind 22 = .ok (.iload_n 1, 1) := by decide +kernel
theorem dX1_behind_23 : decode cX1_behind 23 = .ok (.iconst 1, 1) := by decide +kernel
theorem dX1_behind_24 : decode cX1_behind 24 = .ok (.iadd, 1) := by decide +kernel
theorem dX1_behind_25 : decode cX1_behind 25 = .ok (.invokevirtual 90, 3) := by decide +kernel
theorem dX1_behind_28 : decode cX1_behind 28 = .ok (.istore_n 2, 1) := by decide +kernel
theorem dX1_behind_29 : decode cX1_behind 29 = .ok (.aload_n 0, 1) := by decide +kernel
theorem dX1_behind_30 : decode cX1_behind 30 = .ok (.aload_n 0, 1) := by decide +kernel
theorem dX1_behind_31 : decode cX1_behind 31 = .ok (.getfield 20, 3) := by decide +kernel
theorem dX1_behind_34 : decode cX1_behind 34 = .ok (.iload_n 1, 1) := by decide +kernel
theorem dX1_behind_35 : decode cX1_behind 35 = .ok (.iaload, 1) := by decide +kernel
theorem dX1_behind_36 : decode cX1_behind 36 = .ok (.bipush 31, 2) := by decide +kernel
theorem dX1_behind_38 : decode cX1_behind 38 = .ok (.iand, 1) := by decide +kernel
theorem dX1_behind_39 : decode cX1_behind 39 = .ok (.invokevirtual 90, 3) := by decide +kernel
theorem dX1_behind_42 : decode cX1_behind 42 = .ok (.istore_n 3, 1) := by decide +kernel
theorem dX1_behind_43 : decode cX1_behind 43 = .ok (.aload_n 0, 1) := by decide +kernel
theorem dX1_behind_44 : decode cX1_behind 44 = .ok (.getfield 13, 3) := by decide +kernel
theorem dX1_behind_47 : decode cX1_behind 47 = .ok (.iload_n 1, 1) := by decide +kernel
theorem dX1_behind_48 : decode cX1_behind 48 = .ok (.iaload, 1) := by decide +kernel
theorem dX1_behind_49 : decode cX1_behind 49 = .ok (.bipush 9, 2) := by decide +kernel
theorem dX1_behind_51 : decode cX1_behind 51 = .ok (.if_icmp .ne 10, 3) := by decide +kernel
theorem dX1_behind_54 : decode cX1_behind 54 = .ok (.aload_n 0, 1) := by decide +kernel
theorem dX1_behind_55 : decode cX1_behind 55 = .ok (.getfield 44, 3) := by decide +kernel
theorem dX1_behind_58 : decode cX1_behind 58 = .ok (.iload_n 3, 1) := by decide +kernel
theorem dX1_behind_59 : decode cX1_behind 59 = .ok (.laload, 1) := by decide +kernel
theorem dX1_behind_60 : decode cX1_behind 60 = .ok (.lreturn, 1) := by decide +kernel
theorem dX1_behind_61 : decode cX1_behind 61 = .ok (.aload_n 0, 1) := by decide +kernel
theorem dX1_behind_62 : decode cX1_behind 62 = .ok (.getfield 13, 3) := by decide +kernel
theorem dX1_behind_65 : decode cX1_behind 65 = .ok (.iload_n 1, 1) := by decide +kernel
theorem dX1_behind_66 : decode cX1_behind 66 = .ok (.iaload, 1) := by decide +kernel
theorem dX1_behind_67 : decode cX1_behind 67 = .ok (.bipush 10, 2) := by decide +kernel
theorem dX1_behind_69 : decode cX1_behind 69 = .ok (.if_icmp .ne 19, 3) := by decide +kernel
theorem dX1_behind_72 : decode cX1_behind 72 = .ok (.aload_n 0, 1) := by decide +kernel
theorem dX1_behind_73 : decode cX1_behind 73 = .ok (.getfield 44, 3) := by decide +kernel
theorem dX1_behind_76 : decode cX1_behind 76 = .ok (.iload_n 2, 1) := by decide +kernel
theorem dX1_behind_77 : decode cX1_behind 77 = .ok (.laload, 1) := by decide +kernel
theorem dX1_behind_78 : decode cX1_behind 78 = .ok (.aload_n 0, 1) := by decide +kernel
theorem dX1_behind_79 : decode cX1_behind 79 = .ok (.getfield 44, 3) := by decide +kernel
theorem dX1_behind_82 : decode cX1_behind 82 = .ok (.iload_n 3, 1) := by decide +kernel
theorem dX1_behind_83 : decode cX1_behind 83 = .ok (.laload, 1) := by decide +kernel
theorem dX1_behind_84 : decode cX1_behind 84 = .ok (.land, 1) := by decide +kernel
theorem dX1_behind_85 : decode cX1_behind 85 = .ok (.goto 9, 3) := by decide +kernel
theorem dX1_behind_88 : decode cX1_behind 88 = .ok (.aload_n 0, 1) := by decide +kernel
theorem dX1_behind_89 : decode cX1_behind 89 = .ok (.getfield 44, 3) := by decide +kernel
theorem dX1_behind_92 : decode cX1_behind 92 = .ok (.iload_n 2, 1) := by decide +kernel
theorem dX1_behind_93 : decode cX1_behind 93 = .ok (.laload, 1) := by decide +kernel
theorem dX1_behind_94 : decode cX1_behind 94 = .ok (.lreturn, 1) := by decide +kernel
theorem dX1_capped_0 : decode cX1_capped 0 = .ok (.iload_n 1, 1) := by decide +kernel
theorem dX1_capped_1 : decode cX1_capped 1 = .ok (.aload_n 0, 1) := by decide +kernel
theorem dX1_capped_2 : decode cX1_capped 2 = .ok (.getfield 60, 3) := by decide +kernel
theorem dX1_capped_5 : decode cX1_capped 5 = .ok (.if_icmp .ge 7, 3) := by decide +kernel
theorem dX1_capped_8 : decode cX1_capped 8 = .ok (.iload_n 1, 1) := by decide +kernel
theorem dX1_capped_9 : decode cX1_capped 9 = .ok (.goto 7, 3) := by decide +kernel
theorem dX1_capped_12 : decode cX1_capped 12 = .ok (.aload_n 0, 1) := by decide +kernel
theorem dX1_capped_13 : decode cX1_capped 13 = .ok (.getfield 60, 3) := by decide +kernel
theorem dX1_capped_16 : decode cX1_capped 16 = .ok (.ireturn, 1) := by decide +kernel
theorem dX1_nearest_0 : decode cX1_nearest 0 = .ok (.aload_n 0, 1) := by decide +kernel
theorem dX1_nearest_1 : decode cX1_nearest 1 = .ok (.getfield 44, 3) := by decide +kernel
theorem dX1_nearest_4 : decode cX1_nearest 4 = .ok (.iload_n 1, 1) := by decide +kernel
theorem dX1_nearest_5 : decode cX1_nearest 5 = .ok (.laload, 1) := by decide +kernel
theorem dX1_nearest_6 : decode cX1_nearest 6 = .ok (.lconst 1, 1) := by decide +kernel
theorem dX1_nearest_7 : decode cX1_nearest 7 = .ok (.iload_n 1, 1) := by decide +kernel
theorem dX1_nearest_8 : decode cX1_nearest 8 = .ok (.lshl, 1) := by decide +kernel
theorem dX1_nearest_9 : decode cX1_nearest 9 = .ok (.ldc2_w 93, 3) := by decide +kernel
theorem dX1_nearest_12 : decode cX1_nearest 12 = .ok (.lxor, 1) := by decide +kernel
theorem dX1_nearest_13 : decode cX1_nearest 13 = .ok (.land, 1) := by decide +kernel
theorem dX1_nearest_14 : decode cX1_nearest 14 = .ok (.lstore_n 2, 1) := by decide +kernel
theorem dX1_nearest_15 : decode cX1_nearest 15 = .ok (.iconst 0, 1) := by decide +kernel
theorem dX1_nearest_16 : decode cX1_nearest 16 = .ok (.istore 4, 2) := by decide +kernel
theorem dX1_nearest_18 : decode cX1_nearest 18 = .ok (.iload 4, 2) := by decide +kernel
theorem dX1_nearest_20 : decode cX1_nearest 20 = .ok (.aload_n 0, 1) := by decide +kernel
theorem dX1_nearest_21 : decode cX1_nearest 21 = .ok (.getfield 60, 3) := by decide +kernel
theorem dX1_nearest_24 : decode cX1_nearest 24 = .ok (.if_icmp .ge 35, 3) := by decide +kernel
theorem dX1_nearest_27 : decode cX1_nearest 27 = .ok (.lload_n 2, 1) := by decide +kernel
theorem dX1_nearest_28 : decode cX1_nearest 28 = .ok (.iload 4, 2) := by decide +kernel
theorem dX1_nearest_30 : decode cX1_nearest 30 = .ok (.lushr, 1) := by decide +kernel
theorem dX1_nearest_31 : decode cX1_nearest 31 = .ok (.lconst 1, 1) := by decide +kernel
theorem dX1_nearest_32 : decode cX1_nearest 32 = .ok (.land, 1) := by decide +kernel
theorem dX1_nearest_33 : decode cX1_nearest 33 = .ok (.lconst 0, 1) := by decide +kernel
theorem dX1_nearest_34 : decode cX1_nearest 34 = .ok (.lcmp, 1) := by decide +kernel
theorem dX1_nearest_35 : decode cX1_nearest 35 = .ok (.ifCond .eq 18, 3) := by decide +kernel
theorem dX1_nearest_38 : decode cX1_nearest 38 = .ok (.aload_n 0, 1) := by decide +kernel
theorem dX1_nearest_39 : decode cX1_nearest 39 = .ok (.getfield 44, 3) := by decide +kernel
theorem dX1_nearest_42 : decode cX1_nearest 42 = .ok (.iload 4, 2) := by decide +kernel
theorem dX1_nearest_44 : decode cX1_nearest 44 = .ok (.laload, 1) := by decide +kernel
theorem dX1_nearest_45 : decode cX1_nearest 45 = .ok (.lload_n 2, 1) := by decide +kernel
theorem dX1_nearest_46 : decode cX1_nearest 46 = .ok (.lcmp, 1) := by decide +kernel
theorem dX1_nearest_47 : decode cX1_nearest 47 = .ok (.ifCond .ne 6, 3) := by decide +kernel
theorem dX1_nearest_50 : decode cX1_nearest 50 = .ok (.iload 4, 2) := by decide +kernel
theorem dX1_nearest_52 : decode cX1_nearest 52 = .ok (.ireturn, 1) := by decide +kernel
theorem dX1_nearest_53 : decode cX1_nearest 53 = .ok (.iinc 4 1, 3) := by decide +kernel
theorem dX1_nearest_56 : decode cX1_nearest 56 = .ok (.goto (-38), 3) := by decide +kernel
theorem dX1_nearest_59 : decode cX1_nearest 59 = .ok (.aload_n 0, 1) := by decide +kernel
theorem dX1_nearest_60 : decode cX1_nearest 60 = .ok (.getfield 60, 3) := by decide +kernel
theorem dX1_nearest_63 : decode cX1_nearest 63 = .ok (.ireturn, 1) := by decide +kernel
theorem dX1_reset_0 : decode cX1_reset 0 = .ok (.iconst 0, 1) := by decide +kernel
theorem dX1_reset_1 : decode cX1_reset 1 = .ok (.istore_n 1, 1) := by decide +kernel
theorem dX1_reset_2 : decode cX1_reset 2 = .ok (.iload_n 1, 1) := by decide +kernel
theorem dX1_reset_3 : decode cX1_reset 3 = .ok (.bipush 16, 2) := by decide +kernel
theorem dX1_reset_5 : decode cX1_reset 5 = .ok (.if_icmp .ge 16, 3) := by decide +kernel
theorem dX1_reset_8 : decode cX1_reset 8 = .ok (.aload_n 0, 1) := by decide +kernel
theorem dX1_reset_9 : decode cX1_reset 9 = .ok (.getfield 29, 3) := by decide +kernel
theorem dX1_reset_12 : decode cX1_reset 12 = .ok (.iload_n 1, 1) := by decide +kernel
theorem dX1_reset_13 : decode cX1_reset 13 = .ok (.iconst 0, 1) := by decide +kernel
theorem dX1_reset_14 : decode cX1_reset 14 = .ok (.iastore, 1) := by decide +kernel
theorem dX1_reset_15 : decode cX1_reset 15 = .ok (.iinc 1 1, 3) := by decide +kernel
theorem dX1_reset_18 : decode cX1_reset 18 = .ok (.goto (-16), 3) := by decide +kernel
theorem dX1_reset_21 : decode cX1_reset 21 = .ok (.iconst 0, 1) := by decide +kernel
theorem dX1_reset_22 : decode cX1_reset 22 = .ok (.istore_n 1, 1) := by decide +kernel
theorem dX1_reset_23 : decode cX1_reset 23 = .ok (.iload_n 1, 1) := by decide +kernel
theorem dX1_reset_24 : decode cX1_reset 24 = .ok (.bipush 32, 2) := by decide +kernel
theorem dX1_reset_26 : decode cX1_reset 26 = .ok (.if_icmp .ge 16, 3) := by decide +kernel
theorem dX1_reset_29 : decode cX1_reset 29 = .ok (.aload_n 0, 1) := by decide +kernel
theorem dX1_reset_30 : decode cX1_reset 30 = .ok (.getfield 32, 3) := by decide +kernel
theorem dX1_reset_33 : decode cX1_reset 33 = .ok (.iload_n 1, 1) := by decide +kernel
theorem dX1_reset_34 : decode cX1_reset 34 = .ok (.iconst 0, 1) := by decide +kernel
theorem dX1_reset_35 : decode cX1_reset 35 = .ok (.iastore, 1) := by decide +kernel
theorem dX1_reset_36 : decode cX1_reset 36 = .ok (.iinc 1 1, 3) := by decide +kernel
theorem dX1_reset_39 : decode cX1_reset 39 = .ok (.goto (-16), 3) := by decide +kernel
theorem dX1_reset_42 : decode cX1_reset 42 = .ok (.iconst 0, 1) := by decide +kernel
theorem dX1_reset_43 : decode cX1_reset 43 = .ok (.istore_n 1, 1) := by decide +kernel
theorem dX1_reset_44 : decode cX1_reset 44 = .ok (.iload_n 1, 1) := by decide +kernel
theorem dX1_reset_45 : decode cX1_reset 45 = .ok (.bipush 8, 2) := by decide +kernel
theorem dX1_reset_47 : decode cX1_reset 47 = .ok (.if_icmp .ge 16, 3) := by decide +kernel
theorem dX1_reset_50 : decode cX1_reset 50 = .ok (.aload_n 0, 1) := by decide +kernel
theorem dX1_reset_51 : decode cX1_reset 51 = .ok (.getfield 38, 3) := by decide +kernel
theorem dX1_reset_54 : decode cX1_reset 54 = .ok (.iload_n 1, 1) := by decide +kernel
theorem dX1_reset_55 : decode cX1_reset 55 = .ok (.iconst 0, 1) := by decide +kernel
theorem dX1_reset_56 : decode cX1_reset 56 = .ok (.iastore, 1) := by decide +kernel
theorem dX1_reset_57 : decode cX1_reset 57 = .ok (.iinc 1 1, 3) := by decide +kernel
theorem dX1_reset_60 : decode cX1_reset 60 = .ok (.goto (-16), 3) := by decide +kernel
theorem dX1_reset_63 : decode cX1_reset 63 = .ok (.aload_n 0, 1) := by decide +kernel
theorem dX1_reset_64 : decode cX1_reset 64 = .ok (.iconst 1, 1) := by decide +kernel
theorem dX1_reset_65 : decode cX1_reset 65 = .ok (.aload_n 0, 1) := by decide +kernel
theorem dX1_reset_66 : decode cX1_reset 66 = .ok (.getfield 7, 3) := by decide +kernel
theorem dX1_reset_69 : decode cX1_reset 69 = .ok (.ishl, 1) := by decide +kernel
theorem dX1_reset_70 : decode cX1_reset 70 = .ok (.iconst 1, 1) := by decide +kernel
theorem dX1_reset_71 : decode cX1_reset 71 = .ok (.isub, 1) := by decide +kernel
theorem dX1_reset_72 : decode cX1_reset 72 = .ok (.putfield 72, 3) := by decide +kernel
theorem dX1_reset_75 : decode cX1_reset 75 = .ok (.return_, 1) := by decide +kernel
theorem dX1_stepWarp_0 : decode cX1_stepWarp 0 = .ok (.aload_n 0, 1) := by decide +kernel
theorem dX1_stepWarp_1 : decode cX1_stepWarp 1 = .ok (.getfield 69, 3) := by decide +kernel
theorem dX1_stepWarp_4 : decode cX1_stepWarp 4 = .ok (.iconst 1, 1) := by decide +kernel
theorem dX1_stepWarp_5 : decode cX1_stepWarp 5 = .ok (.isub, 1) := by decide +kernel
theorem dX1_stepWarp_6 : decode cX1_stepWarp 6 = .ok (.istore_n 1, 1) := by decide +kernel
theorem dX1_stepWarp_7 : decode cX1_stepWarp 7 = .ok (.aload_n 0, 1) := by decide +kernel
theorem dX1_stepWarp_8 : decode cX1_stepWarp 8 = .ok (.getfield 57, 3) := by decide +kernel
theorem dX1_stepWarp_11 : decode cX1_stepWarp 11 = .ok (.iload_n 1, 1) := by decide +kernel
theorem dX1_stepWarp_12 : decode cX1_stepWarp 12 = .ok (.iaload, 1) := by decide +kernel
theorem dX1_stepWarp_13 : decode cX1_stepWarp 13 = .ok (.aload_n 0, 1) := by decide +kernel
theorem dX1_stepWarp_14 : decode cX1_stepWarp 14 = .ok (.getfield 72, 3) := by decide +kernel
theorem dX1_stepWarp_17 : decode cX1_stepWarp 17 = .ok (.iand, 1) := by decide +kernel
theorem dX1_stepWarp_18 : decode cX1_stepWarp 18 = .ok (.istore_n 2, 1) := by decide +kernel
theorem dX1_stepWarp_19 : decode cX1_stepWarp 19 = .ok (.aload_n 0, 1) := by decide +kernel
theorem dX1_stepWarp_20 : decode cX1_stepWarp 20 = .ok (.getfield 51, 3) := by decide +kernel
theorem dX1_stepWarp_23 : decode cX1_stepWarp 23 = .ok (.iload_n 1, 1) := by decide +kernel
theorem dX1_stepWarp_24 : decode cX1_stepWarp 24 = .ok (.iaload, 1) := by decide +kernel
theorem dX1_stepWarp_25 : decode cX1_stepWarp 25 = .ok (.istore_n 3, 1) := by decide +kernel
theorem dX1_stepWarp_26 : decode cX1_stepWarp 26 = .ok (.iload_n 2, 1) := by decide +kernel
theorem dX1_stepWarp_27 : decode cX1_stepWarp 27 = .ok (.ifCond .eq 13, 3) := by decide +kernel
theorem dX1_stepWarp_30 : decode cX1_stepWarp 30 = .ok (.iload_n 3, 1) := by decide +kernel
theorem dX1_stepWarp_31 : decode cX1_stepWarp 31 = .ok (.aload_n 0, 1) := by decide +kernel
theorem dX1_stepWarp_32 : decode cX1_stepWarp 32 = .ok (.getfield 54, 3) := by decide +kernel
theorem dX1_stepWarp_35 : decode cX1_stepWarp 35 = .ok (.iload_n 1, 1) := by decide +kernel
theorem dX1_stepWarp_36 : decode cX1_stepWarp 36 = .ok (.iaload, 1) := by decide +kernel
theorem dX1_stepWarp_37 : decode cX1_stepWarp 37 = .ok (.if_icmp .ne 14, 3) := by decide +kernel
theorem dX1_stepWarp_40 : decode cX1_stepWarp 40 = .ok (.aload_n 0, 1) := by decide +kernel
theorem dX1_stepWarp_41 : decode cX1_stepWarp 41 = .ok (.dup, 1) := by decide +kernel
theorem dX1_stepWarp_42 : decode cX1_stepWarp 42 = .ok (.getfield 69, 3) := by decide +kernel
theorem dX1_stepWarp_45 : decode cX1_stepWarp 45 = .ok (.iconst 1, 1) := by decide +kernel
theorem dX1_stepWarp_46 : decode cX1_stepWarp 46 = .ok (.isub, 1) := by decide +kernel
theorem dX1_stepWarp_47 : decode cX1_stepWarp 47 = .ok (.putfield 69, 3) := by decide +kernel
theorem dX1_stepWarp_50 : decode cX1_stepWarp 50 = .ok (.return_, 1) := by decide +kernel
end
section
set_option maxRecDepth 100000
theorem dX1_stepWarp_51 : decode cX1_stepWarp 51 = .ok (.iload_n 3, 1) := by decide +kernel
theorem dX1_stepWarp_52 : decode cX1_stepWarp 52 = .ok (.aload_n 0, 1) := by decide +kernel
theorem dX1_stepWarp_53 : decode cX1_stepWarp 53 = .ok (.getfield 60, 3) := by decide +kernel
theorem dX1_stepWarp_56 : decode cX1_stepWarp 56 = .ok (.if_icmp .lt 11, 3) := by decide +kernel
theorem dX1_stepWarp_59 : decode cX1_stepWarp 59 = .ok (.aload_n 0, 1) := by decide +kernel
theorem dX1_stepWarp_60 : decode cX1_stepWarp 60 = .ok (.iload_n 2, 1) := by decide +kernel
theorem dX1_stepWarp_61 : decode cX1_stepWarp 61 = .ok (.iload_n 3, 1) := by decide +kernel
theorem dX1_stepWarp_62 : decode cX1_stepWarp 62 = .ok (.iconst 1, 1) := by decide +kernel
theorem dX1_stepWarp_63 : decode cX1_stepWarp 63 = .ok (.invokevirtual 95, 3) := by decide +kernel
theorem dX1_stepWarp_66 : decode cX1_stepWarp 66 = .ok (.return_, 1) := by decide +kernel
theorem dX1_stepWarp_67 : decode cX1_stepWarp 67 = .ok (.iconst 0, 1) := by decide +kernel
theorem dX1_stepWarp_68 : decode cX1_stepWarp 68 = .ok (.istore 4, 2) := by decide +kernel
theorem dX1_stepWarp_70 : decode cX1_stepWarp 70 = .ok (.iconst 0, 1) := by decide +kernel
theorem dX1_stepWarp_71 : decode cX1_stepWarp 71 = .ok (.istore 5, 2) := by decide +kernel
theorem dX1_stepWarp_73 : decode cX1_stepWarp 73 = .ok (.iload 5, 2) := by decide +kernel
theorem dX1_stepWarp_75 : decode cX1_stepWarp 75 = .ok (.aload_n 0, 1) := by decide +kernel
theorem dX1_stepWarp_76 : decode cX1_stepWarp 76 = .ok (.getfield 7, 3) := by decide +kernel
theorem dX1_stepWarp_79 : decode cX1_stepWarp 79 = .ok (.if_icmp .ge 43, 3) := by decide +kernel
theorem dX1_stepWarp_82 : decode cX1_stepWarp 82 = .ok (.iload 4, 2) := by decide +kernel
theorem dX1_stepWarp_84 : decode cX1_stepWarp 84 = .ok (.iload_n 2, 1) := by decide +kernel
theorem dX1_stepWarp_85 : decode cX1_stepWarp 85 = .ok (.iload 5, 2) := by decide +kernel
theorem dX1_stepWarp_87 : decode cX1_stepWarp 87 = .ok (.iushr, 1) := by decide +kernel
theorem dX1_stepWarp_88 : decode cX1_stepWarp 88 = .ok (.iconst 1, 1) := by decide +kernel
theorem dX1_stepWarp_89 : decode cX1_stepWarp 89 = .ok (.iand, 1) := by decide +kernel
theorem dX1_stepWarp_90 : decode cX1_stepWarp 90 = .ok (.ifCond .eq 22, 3) := by decide +kernel
theorem dX1_stepWarp_93 : decode cX1_stepWarp 93 = .ok (.aload_n 0, 1) := by decide +kernel
theorem dX1_stepWarp_94 : decode cX1_stepWarp 94 = .ok (.getfield 38, 3) := by decide +kernel
theorem dX1_stepWarp_97 : decode cX1_stepWarp 97 = .ok (.iload 5, 2) := by decide +kernel
theorem dX1_stepWarp_99 : decode cX1_stepWarp 99 = .ok (.iaload, 1) := by decide +kernel
theorem dX1_stepWarp_100 : decode cX1_stepWarp 100 = .ok (.bipush 48, 2) := by decide +kernel
theorem dX1_stepWarp_102 : decode cX1_stepWarp 102 = .ok (.if_icmp .lt 10, 3) := by decide +kernel
theorem dX1_stepWarp_105 : decode cX1_stepWarp 105 = .ok (.iconst 1, 1) := by decide +kernel
theorem dX1_stepWarp_106 : decode cX1_stepWarp 106 = .ok (.iload 5, 2) := by decide +kernel
theorem dX1_stepWarp_108 : decode cX1_stepWarp 108 = .ok (.ishl, 1) := by decide +kernel
theorem dX1_stepWarp_109 : decode cX1_stepWarp 109 = .ok (.goto 4, 3) := by decide +kernel
theorem dX1_stepWarp_112 : decode cX1_stepWarp 112 = .ok (.iconst 0, 1) := by decide +kernel
theorem dX1_stepWarp_113 : decode cX1_stepWarp 113 = .ok (.ior, 1) := by decide +kernel
theorem dX1_stepWarp_114 : decode cX1_stepWarp 114 = .ok (.istore 4, 2) := by decide +kernel
theorem dX1_stepWarp_116 : decode cX1_stepWarp 116 = .ok (.iinc 5 1, 3) := by decide +kernel
theorem dX1_stepWarp_119 : decode cX1_stepWarp 119 = .ok (.goto (-46), 3) := by decide +kernel
theorem dX1_stepWarp_122 : decode cX1_stepWarp 122 = .ok (.iload 4, 2) := by decide +kernel
theorem dX1_stepWarp_124 : decode cX1_stepWarp 124 = .ok (.ifCond .eq 12, 3) := by decide +kernel
theorem dX1_stepWarp_127 : decode cX1_stepWarp 127 = .ok (.aload_n 0, 1) := by decide +kernel
theorem dX1_stepWarp_128 : decode cX1_stepWarp 128 = .ok (.iload 4, 2) := by decide +kernel
theorem dX1_stepWarp_130 : decode cX1_stepWarp 130 = .ok (.iload_n 3, 1) := by decide +kernel
theorem dX1_stepWarp_131 : decode cX1_stepWarp 131 = .ok (.iconst 2, 1) := by decide +kernel
theorem dX1_stepWarp_132 : decode cX1_stepWarp 132 = .ok (.invokevirtual 95, 3) := by decide +kernel
theorem dX1_stepWarp_135 : decode cX1_stepWarp 135 = .ok (.return_, 1) := by decide +kernel
theorem dX1_stepWarp_136 : decode cX1_stepWarp 136 = .ok (.aload_n 0, 1) := by decide +kernel
theorem dX1_stepWarp_137 : decode cX1_stepWarp 137 = .ok (.getfield 57, 3) := by decide +kernel
theorem dX1_stepWarp_140 : decode cX1_stepWarp 140 = .ok (.iload_n 1, 1) := by decide +kernel
theorem dX1_stepWarp_141 : decode cX1_stepWarp 141 = .ok (.iload_n 2, 1) := by decide +kernel
theorem dX1_stepWarp_142 : decode cX1_stepWarp 142 = .ok (.iastore, 1) := by decide +kernel
theorem dX1_stepWarp_143 : decode cX1_stepWarp 143 = .ok (.aload_n 0, 1) := by decide +kernel
theorem dX1_stepWarp_144 : decode cX1_stepWarp 144 = .ok (.iload_n 1, 1) := by decide +kernel
theorem dX1_stepWarp_145 : decode cX1_stepWarp 145 = .ok (.iload_n 3, 1) := by decide +kernel
theorem dX1_stepWarp_146 : decode cX1_stepWarp 146 = .ok (.iload_n 2, 1) := by decide +kernel
theorem dX1_stepWarp_147 : decode cX1_stepWarp 147 = .ok (.invokevirtual 99, 3) := by decide +kernel
theorem dX1_stepWarp_150 : decode cX1_stepWarp 150 = .ok (.return_, 1) := by decide +kernel
theorem dX1_endThreads_0 : decode cX1_endThreads 0 = .ok (.iconst 0, 1) := by decide +kernel
theorem dX1_endThreads_1 : decode cX1_endThreads 1 = .ok (.istore 4, 2) := by decide +kernel
theorem dX1_endThreads_3 : decode cX1_endThreads 3 = .ok (.iload 4, 2) := by decide +kernel
theorem dX1_endThreads_5 : decode cX1_endThreads 5 = .ok (.aload_n 0, 1) := by decide +kernel
theorem dX1_endThreads_6 : decode cX1_endThreads 6 = .ok (.getfield 7, 3) := by decide +kernel
theorem dX1_endThreads_9 : decode cX1_endThreads 9 = .ok (.if_icmp .ge 34, 3) := by decide +kernel
theorem dX1_endThreads_12 : decode cX1_endThreads 12 = .ok (.iload_n 1, 1) := by decide +kernel
theorem dX1_endThreads_13 : decode cX1_endThreads 13 = .ok (.iload 4, 2) := by decide +kernel
theorem dX1_endThreads_15 : decode cX1_endThreads 15 = .ok (.iushr, 1) := by decide +kernel
theorem dX1_endThreads_16 : decode cX1_endThreads 16 = .ok (.iconst 1, 1) := by decide +kernel
theorem dX1_endThreads_17 : decode cX1_endThreads 17 = .ok (.iand, 1) := by decide +kernel
theorem dX1_endThreads_18 : decode cX1_endThreads 18 = .ok (.ifCond .eq 19, 3) := by decide +kernel
theorem dX1_endThreads_21 : decode cX1_endThreads 21 = .ok (.aload_n 0, 1) := by decide +kernel
theorem dX1_endThreads_22 : decode cX1_endThreads 22 = .ok (.getfield 35, 3) := by decide +kernel
theorem dX1_endThreads_25 : decode cX1_endThreads 25 = .ok (.iload 4, 2) := by decide +kernel
theorem dX1_endThreads_27 : decode cX1_endThreads 27 = .ok (.iload_n 2, 1) := by decide +kernel
theorem dX1_endThreads_28 : decode cX1_endThreads 28 = .ok (.iastore, 1) := by decide +kernel
theorem dX1_endThreads_29 : decode cX1_endThreads 29 = .ok (.aload_n 0, 1) := by decide +kernel
theorem dX1_endThreads_30 : decode cX1_endThreads 30 = .ok (.getfield 41, 3) := by decide +kernel
theorem dX1_endThreads_33 : decode cX1_endThreads 33 = .ok (.iload 4, 2) := by decide +kernel
theorem dX1_endThreads_35 : decode cX1_endThreads 35 = .ok (.iload_n 3, 1) := by decide +kernel
theorem dX1_endThreads_36 : decode cX1_endThreads 36 = .ok (.iastore, 1) := by decide +kernel
theorem dX1_endThreads_37 : decode cX1_endThreads 37 = .ok (.iinc 4 1, 3) := by decide +kernel
theorem dX1_endThreads_40 : decode cX1_endThreads 40 = .ok (.goto (-37), 3) := by decide +kernel
theorem dX1_endThreads_43 : decode cX1_endThreads 43 = .ok (.aload_n 0, 1) := by decide +kernel
theorem dX1_endThreads_44 : decode cX1_endThreads 44 = .ok (.dup, 1) := by decide +kernel
theorem dX1_endThreads_45 : decode cX1_endThreads 45 = .ok (.getfield 72, 3) := by decide +kernel
theorem dX1_endThreads_48 : decode cX1_endThreads 48 = .ok (.iload_n 1, 1) := by decide +kernel
theorem dX1_endThreads_49 : decode cX1_endThreads 49 = .ok (.iconst (-1), 1) := by decide +kernel
theorem dX1_endThreads_50 : decode cX1_endThreads 50 = .ok (.ixor, 1) := by decide +kernel
theorem dX1_endThreads_51 : decode cX1_endThreads 51 = .ok (.iand, 1) := by decide +kernel
theorem dX1_endThreads_52 : decode cX1_endThreads 52 = .ok (.putfield 72, 3) := by decide +kernel
theorem dX1_endThreads_55 : decode cX1_endThreads 55 = .ok (.return_, 1) := by decide +kernel
theorem dX1_carryOut_0 : decode cX1_carryOut 0 = .ok (.aload_n 0, 1) := by decide +kernel
theorem dX1_carryOut_1 : decode cX1_carryOut 1 = .ok (.getfield 13, 3) := by decide +kernel
theorem dX1_carryOut_4 : decode cX1_carryOut 4 = .ok (.iload_n 2, 1) := by decide +kernel
theorem dX1_carryOut_5 : decode cX1_carryOut 5 = .ok (.iaload, 1) := by decide +kernel
theorem dX1_carryOut_6 : decode cX1_carryOut 6 = .ok (.istore 4, 2) := by decide +kernel
theorem dX1_carryOut_8 : decode cX1_carryOut 8 = .ok (.iconst 0, 1) := by decide +kernel
theorem dX1_carryOut_9 : decode cX1_carryOut 9 = .ok (.istore 5, 2) := by decide +kernel
theorem dX1_carryOut_11 : decode cX1_carryOut 11 = .ok (.iconst 0, 1) := by decide +kernel
theorem dX1_carryOut_12 : decode cX1_carryOut 12 = .ok (.istore 6, 2) := by decide +kernel
theorem dX1_carryOut_14 : decode cX1_carryOut 14 = .ok (.iload 6, 2) := by decide +kernel
theorem dX1_carryOut_16 : decode cX1_carryOut 16 = .ok (.aload_n 0, 1) := by decide +kernel
theorem dX1_carryOut_17 : decode cX1_carryOut 17 = .ok (.getfield 7, 3) := by decide +kernel
theorem dX1_carryOut_20 : decode cX1_carryOut 20 = .ok (.if_icmp .ge 72, 3) := by decide +kernel
theorem dX1_carryOut_23 : decode cX1_carryOut 23 = .ok (.iload_n 3, 1) := by decide +kernel
theorem dX1_carryOut_24 : decode cX1_carryOut 24 = .ok (.iload 6, 2) := by decide +kernel
theorem dX1_carryOut_26 : decode cX1_carryOut 26 = .ok (.iushr, 1) := by decide +kernel
theorem dX1_carryOut_27 : decode cX1_carryOut 27 = .ok (.iconst 1, 1) := by decide +kernel
theorem dX1_carryOut_28 : decode cX1_carryOut 28 = .ok (.iand, 1) := by decide +kernel
theorem dX1_carryOut_29 : decode cX1_carryOut 29 = .ok (.ifCond .eq 57, 3) := by decide +kernel
theorem dX1_carryOut_32 : decode cX1_carryOut 32 = .ok (.aload_n 0, 1) := by decide +kernel
theorem dX1_carryOut_33 : decode cX1_carryOut 33 = .ok (.getfield 38, 3) := by decide +kernel
theorem dX1_carryOut_36 : decode cX1_carryOut 36 = .ok (.iload 6, 2) := by decide +kernel
theorem dX1_carryOut_38 : decode cX1_carryOut 38 = .ok (.dup2, 1) := by decide +kernel
theorem dX1_carryOut_39 : decode cX1_carryOut 39 = .ok (.iaload, 1) := by decide +kernel
theorem dX1_carryOut_40 : decode cX1_carryOut 40 = .ok (.iconst 1, 1) := by decide +kernel
theorem dX1_carryOut_41 : decode cX1_carryOut 41 = .ok (.iadd, 1) := by decide +kernel
theorem dX1_carryOut_42 : decode cX1_carryOut 42 = .ok (.iastore, 1) := by decide +kernel
theorem dX1_carryOut_43 : decode cX1_carryOut 43 = .ok (.iload 5, 2) := by decide +kernel
theorem dX1_carryOut_45 : decode cX1_carryOut 45 = .ok (.aload_n 0, 1) := by decide +kernel
theorem dX1_carryOut_46 : decode cX1_carryOut 46 = .ok (.getfield 32, 3) := by decide +kernel
theorem dX1_carryOut_49 : decode cX1_carryOut 49 = .ok (.iconst 4, 1) := by decide +kernel
theorem dX1_carryOut_50 : decode cX1_carryOut 50 = .ok (.iload 6, 2) := by decide +kernel
theorem dX1_carryOut_52 : decode cX1_carryOut 52 = .ok (.imul, 1) := by decide +kernel
theorem dX1_carryOut_53 : decode cX1_carryOut 53 = .ok (.aload_n 0, 1) := by decide +kernel
theorem dX1_carryOut_54 : decode cX1_carryOut 54 = .ok (.getfield 17, 3) := by decide +kernel
theorem dX1_carryOut_57 : decode cX1_carryOut 57 = .ok (.iload_n 2, 1) := by decide +kernel
theorem dX1_carryOut_58 : decode cX1_carryOut 58 = .ok (.iaload, 1) := by decide +kernel
theorem dX1_carryOut_59 : decode cX1_carryOut 59 = .ok (.iconst 3, 1) := by decide +kernel
theorem dX1_carryOut_60 : decode cX1_carryOut 60 = .ok (.iand, 1) := by decide +kernel
theorem dX1_carryOut_61 : decode cX1_carryOut 61 = .ok (.iadd, 1) := by decide +kernel
theorem dX1_carryOut_62 : decode cX1_carryOut 62 = .ok (.iaload, 1) := by decide +kernel
theorem dX1_carryOut_63 : decode cX1_carryOut 63 = .ok (.ifCond .ne 10, 3) := by decide +kernel
theorem dX1_carryOut_66 : decode cX1_carryOut 66 = .ok (.iconst 1, 1) := by decide +kernel
theorem dX1_carryOut_67 : decode cX1_carryOut 67 = .ok (.iload 6, 2) := by decide +kernel
theorem dX1_carryOut_69 : decode cX1_carryOut 69 = .ok (.ishl, 1) := by decide +kernel
theorem dX1_carryOut_70 : decode cX1_carryOut 70 = .ok (.goto 4, 3) := by decide +kernel
theorem dX1_carryOut_73 : decode cX1_carryOut 73 = .ok (.iconst 0, 1) := by decide +kernel
theorem dX1_carryOut_74 : decode cX1_carryOut 74 = .ok (.ior, 1) := by decide +kernel
theorem dX1_carryOut_75 : decode cX1_carryOut 75 = .ok (.istore 5, 2) := by decide +kernel
theorem dX1_carryOut_77 : decode cX1_carryOut 77 = .ok (.aload_n 0, 1) := by decide +kernel
theorem dX1_carryOut_78 : decode cX1_carryOut 78 = .ok (.iload 6, 2) := by decide +kernel
theorem dX1_carryOut_80 : decode cX1_carryOut 80 = .ok (.iload 4, 2) := by decide +kernel
theorem dX1_carryOut_82 : decode cX1_carryOut 82 = .ok (.iload_n 2, 1) := by decide +kernel
theorem dX1_carryOut_83 : decode cX1_carryOut 83 = .ok (.invokevirtual 102, 3) := by decide +kernel
theorem dX1_carryOut_86 : decode cX1_carryOut 86 = .ok (.iinc 6 1, 3) := by decide +kernel
theorem dX1_carryOut_89 : decode cX1_carryOut 89 = .ok (.goto (-75), 3) := by decide +kernel
theorem dX1_carryOut_92 : decode cX1_carryOut 92 = .ok (.iload 4, 2) := by decide +kernel
theorem dX1_carryOut_94 : decode cX1_carryOut 94 = .ok (.bipush 11, 2) := by decide +kernel
theorem dX1_carryOut_96 : decode cX1_carryOut 96 = .ok (.if_icmp .ne 13, 3) := by decide +kernel
theorem dX1_carryOut_99 : decode cX1_carryOut 99 = .ok (.aload_n 0, 1) := by decide +kernel
theorem dX1_carryOut_100 : decode cX1_carryOut 100 = .ok (.iload_n 3, 1) := by decide +kernel
theorem dX1_carryOut_101 : decode cX1_carryOut 101 = .ok (.iload_n 2, 1) := by decide +kernel
theorem dX1_carryOut_102 : decode cX1_carryOut 102 = .ok (.iconst 1, 1) := by decide +kernel
theorem dX1_carryOut_103 : decode cX1_carryOut 103 = .ok (.invokevirtual 95, 3) := by decide +kernel
theorem dX1_carryOut_106 : decode cX1_carryOut 106 = .ok (.goto 61, 3) := by decide +kernel
theorem dX1_carryOut_109 : decode cX1_carryOut 109 = .ok (.iload 4, 2) := by decide +kernel
theorem dX1_carryOut_111 : decode cX1_carryOut 111 = .ok (.bipush 9, 2) := by decide +kernel
theorem dX1_carryOut_113 : decode cX1_carryOut 113 = .ok (.if_icmp .ne 21, 3) := by decide +kernel
theorem dX1_carryOut_116 : decode cX1_carryOut 116 = .ok (.aload_n 0, 1) := by decide +kernel
theorem dX1_carryOut_117 : decode cX1_carryOut 117 = .ok (.getfield 51, 3) := by decide +kernel
theorem dX1_carryOut_120 : decode cX1_carryOut 120 = .ok (.iload_n 1, 1) := by decide +kernel
theorem dX1_carryOut_121 : decode cX1_carryOut 121 = .ok (.aload_n 0, 1) := by decide +kernel
theorem dX1_carryOut_122 : decode cX1_carryOut 122 = .ok (.getfield 20, 3) := by decide +kernel
theorem dX1_carryOut_125 : decode cX1_carryOut 125 = .ok (.iload_n 2, 1) := by decide +kernel
theorem dX1_carryOut_126 : decode cX1_carryOut 126 = .ok (.iaload, 1) := by decide +kernel
theorem dX1_carryOut_127 : decode cX1_carryOut 127 = .ok (.bipush 31, 2) := by decide +kernel
theorem dX1_carryOut_129 : decode cX1_carryOut 129 = .ok (.iand, 1) := by decide +kernel
theorem dX1_carryOut_130 : decode cX1_carryOut 130 = .ok (.iastore, 1) := by decide +kernel
theorem dX1_carryOut_131 : decode cX1_carryOut 131 = .ok (.goto 36, 3) := by decide +kernel
theorem dX1_carryOut_134 : decode cX1_carryOut 134 = .ok (.iload 4, 2) := by decide +kernel
theorem dX1_carryOut_136 : decode cX1_carryOut 136 = .ok (.bipush 10, 2) := by decide +kernel
theorem dX1_carryOut_138 : decode cX1_carryOut 138 = .ok (.if_icmp .ne 20, 3) := by decide +kernel
theorem dX1_carryOut_141 : decode cX1_carryOut 141 = .ok (.aload_n 0, 1) := by decide +kernel
theorem dX1_carryOut_142 : decode cX1_carryOut 142 = .ok (.iload_n 1, 1) := by decide +kernel
theorem dX1_carryOut_143 : decode cX1_carryOut 143 = .ok (.iload_n 2, 1) := by decide +kernel
theorem dX1_carryOut_144 : decode cX1_carryOut 144 = .ok (.iload 5, 2) := by decide +kernel
theorem dX1_carryOut_146 : decode cX1_carryOut 146 = .ok (.iload_n 3, 1) := by decide +kernel
theorem dX1_carryOut_147 : decode cX1_carryOut 147 = .ok (.iload 5, 2) := by decide +kernel
theorem dX1_carryOut_149 : decode cX1_carryOut 149 = .ok (.iconst (-1), 1) := by decide +kernel
theorem dX1_carryOut_150 : decode cX1_carryOut 150 = .ok (.ixor, 1) := by decide +kernel
theorem dX1_carryOut_151 : decode cX1_carryOut 151 = .ok (.iand, 1) := by decide +kernel
theorem dX1_carryOut_152 : decode cX1_carryOut 152 = .ok (.invokevirtual 105, 3) := by decide +kernel
theorem dX1_carryOut_155 : decode cX1_carryOut 155 = .ok (.goto 12, 3) := by decide +kernel
theorem dX1_carryOut_158 : decode cX1_carryOut 158 = .ok (.aload_n 0, 1) := by decide +kernel
theorem dX1_carryOut_159 : decode cX1_carryOut 159 = .ok (.getfield 51, 3) := by decide +kernel
theorem dX1_carryOut_162 : decode cX1_carryOut 162 = .ok (.iload_n 1, 1) := by decide +kernel
theorem dX1_carryOut_163 : decode cX1_carryOut 163 = .ok (.iload_n 2, 1) := by decide +kernel
theorem dX1_carryOut_164 : decode cX1_carryOut 164 = .ok (.iconst 1, 1) := by decide +kernel
theorem dX1_carryOut_165 : decode cX1_carryOut 165 = .ok (.iadd, 1) := by decide +kernel
theorem dX1_carryOut_166 : decode cX1_carryOut 166 = .ok (.iastore, 1) := by decide +kernel
theorem dX1_carryOut_167 : decode cX1_carryOut 167 = .ok (.return_, 1) := by decide +kernel
theorem dX1_work_0 : decode cX1_work 0 = .ok (.iconst 4, 1) := by decide +kernel
theorem dX1_work_1 : decode cX1_work 1 = .ok (.iload_n 1, 1) := by decide +kernel
theorem dX1_work_2 : decode cX1_work 2 = .ok (.imul, 1) := by decide +kernel
theorem dX1_work_3 : decode cX1_work 3 = .ok (.aload_n 0, 1) := by decide +kernel
theorem dX1_work_4 : decode cX1_work 4 = .ok (.getfield 17, 3) := by decide +kernel
theorem dX1_work_7 : decode cX1_work 7 = .ok (.iload_n 3, 1) := by decide +kernel
theorem dX1_work_8 : decode cX1_work 8 = .ok (.iaload, 1) := by decide +kernel
theorem dX1_work_9 : decode cX1_work 9 = .ok (.iconst 3, 1) := by decide +kernel
theorem dX1_work_10 : decode cX1_work 10 = .ok (.iand, 1) := by decide +kernel
theorem dX1_work_11 : decode cX1_work 11 = .ok (.iadd, 1) := by decide +kernel
theorem dX1_work_12 : decode cX1_work 12 = .ok (.istore 4, 2) := by decide +kernel
theorem dX1_work_14 : decode cX1_work 14 = .ok (.iconst 4, 1) := by decide +kernel
theorem dX1_work_15 : decode cX1_work 15 = .ok (.iload_n 1, 1) := by decide +kernel
theorem dX1_work_16 : decode cX1_work 16 = .ok (.imul, 1) := by decide +kernel
theorem dX1_work_17 : decode cX1_work 17 = .ok (.aload_n 0, 1) := by decide +kernel
theorem dX1_work_18 : decode cX1_work 18 = .ok (.getfield 20, 3) := by decide +kernel
theorem dX1_work_21 : decode cX1_work 21 = .ok (.iload_n 3, 1) := by decide +kernel
theorem dX1_work_22 : decode cX1_work 22 = .ok (.iaload, 1) := by decide +kernel
theorem dX1_work_23 : decode cX1_work 23 = .ok (.iconst 3, 1) := by decide +kernel
theorem dX1_work_24 : decode cX1_work 24 = .ok (.iand, 1) := by decide +kernel
theorem dX1_work_25 : decode cX1_work 25 = .ok (.iadd, 1) := by decide +kernel
theorem dX1_work_26 : decode cX1_work 26 = .ok (.istore 5, 2) := by decide +kernel
theorem dX1_work_28 : decode cX1_work 28 = .ok (.aload_n 0, 1) := by decide +kernel
theorem dX1_work_29 : decode cX1_work 29 = .ok (.getfield 32, 3) := by decide +kernel
theorem dX1_work_32 : decode cX1_work 32 = .ok (.iload 5, 2) := by decide +kernel
theorem dX1_work_34 : decode cX1_work 34 = .ok (.iaload, 1) := by decide +kernel
theorem dX1_work_35 : decode cX1_work 35 = .ok (.istore 6, 2) := by decide +kernel
theorem dX1_work_37 : decode cX1_work 37 = .ok (.aload_n 0, 1) := by decide +kernel
theorem dX1_work_38 : decode cX1_work 38 = .ok (.getfield 32, 3) := by decide +kernel
theorem dX1_work_41 : decode cX1_work 41 = .ok (.iconst 4, 1) := by decide +kernel
theorem dX1_work_42 : decode cX1_work 42 = .ok (.iload_n 1, 1) := by decide +kernel
theorem dX1_work_43 : decode cX1_work 43 = .ok (.imul, 1) := by decide +kernel
theorem dX1_work_44 : decode cX1_work 44 = .ok (.aload_n 0, 1) := by decide +kernel
theorem dX1_work_45 : decode cX1_work 45 = .ok (.getfield 23, 3) := by decide +kernel
theorem dX1_work_48 : decode cX1_work 48 = .ok (.iload_n 3, 1) := by decide +kernel
theorem dX1_work_49 : decode cX1_work 49 = .ok (.iaload, 1) := by decide +kernel
theorem dX1_work_50 : decode cX1_work 50 = .ok (.iconst 3, 1) := by decide +kernel
theorem dX1_work_51 : decode cX1_work 51 = .ok (.iand, 1) := by decide +kernel
theorem dX1_work_52 : decode cX1_work 52 = .ok (.iadd, 1) := by decide +kernel
theorem dX1_work_53 : decode cX1_work 53 = .ok (.iaload, 1) := by decide +kernel
theorem dX1_work_54 : decode cX1_work 54 = .ok (.istore 7, 2) := by decide +kernel
theorem dX1_work_56 : decode cX1_work 56 = .ok (.iload_n 2, 1) := by decide +kernel
theorem dX1_work_57 : decode cX1_work 57 = .ok (.ifCond .ne 19, 3) := by decide +kernel
theorem dX1_work_60 : decode cX1_work 60 = .ok (.aload_n 0, 1) := by decide +kernel
theorem dX1_work_61 : decode cX1_work 61 = .ok (.getfield 32, 3) := by decide +kernel
theorem dX1_work_64 : decode cX1_work 64 = .ok (.iload 4, 2) := by decide +kernel
theorem dX1_work_66 : decode cX1_work 66 = .ok (.aload_n 0, 1) := by decide +kernel
theorem dX1_work_67 : decode cX1_work 67 = .ok (.getfield 20, 3) := by decide +kernel
theorem dX1_work_70 : decode cX1_work 70 = .ok (.iload_n 3, 1) := by decide +kernel
theorem dX1_work_71 : decode cX1_work 71 = .ok (.iaload, 1) := by decide +kernel
theorem dX1_work_72 : decode cX1_work 72 = .ok (.iastore, 1) := by decide +kernel
theorem dX1_work_73 : decode cX1_work 73 = .ok (.goto 95, 3) := by decide +kernel
theorem dX1_work_76 : decode cX1_work 76 = .ok (.iload_n 2, 1) := by decide +kernel
theorem dX1_work_77 : decode cX1_work 77 = .ok (.iconst 5, 1) := by decide +kernel
theorem dX1_work_78 : decode cX1_work 78 = .ok (.if_icmp .gt 21, 3) := by decide +kernel
theorem dX1_work_81 : decode cX1_work 81 = .ok (.aload_n 0, 1) := by decide +kernel
theorem dX1_work_82 : decode cX1_work 82 = .ok (.getfield 32, 3) := by decide +kernel
theorem dX1_work_85 : decode cX1_work 85 = .ok (.iload 4, 2) := by decide +kernel
theorem dX1_work_87 : decode cX1_work 87 = .ok (.iload_n 2, 1) := by decide +kernel
theorem dX1_work_88 : decode cX1_work 88 = .ok (.iload 6, 2) := by decide +kernel
theorem dX1_work_90 : decode cX1_work 90 = .ok (.iload 7, 2) := by decide +kernel
theorem dX1_work_92 : decode cX1_work 92 = .ok (.invokestatic 112, 3) := by decide +kernel
theorem dX1_work_95 : decode cX1_work 95 = .ok (.iastore, 1) := by decide +kernel
theorem dX1_work_96 : decode cX1_work 96 = .ok (.goto 72, 3) := by decide +kernel
theorem dX1_work_99 : decode cX1_work 99 = .ok (.iload_n 2, 1) := by decide +kernel
theorem dX1_work_100 : decode cX1_work 100 = .ok (.bipush 6, 2) := by decide +kernel
theorem dX1_work_102 : decode cX1_work 102 = .ok (.if_icmp .ne 14, 3) := by decide +kernel
theorem dX1_work_105 : decode cX1_work 105 = .ok (.aload_n 0, 1) := by decide +kernel
theorem dX1_work_106 : decode cX1_work 106 = .ok (.getfield 32, 3) := by decide +kernel
theorem dX1_work_109 : decode cX1_work 109 = .ok (.iload 4, 2) := by decide +kernel
theorem dX1_work_111 : decode cX1_work 111 = .ok (.iload_n 1, 1) := by decide +kernel
theorem dX1_work_112 : decode cX1_work 112 = .ok (.iastore, 1) := by decide +kernel
theorem dX1_work_113 : decode cX1_work 113 = .ok (.goto 55, 3) := by decide +kernel
theorem dX1_work_116 : decode cX1_work 116 = .ok (.iload_n 2, 1) := by decide +kernel
theorem dX1_work_117 : decode cX1_work 117 = .ok (.bipush 7, 2) := by decide +kernel
theorem dX1_work_119 : decode cX1_work 119 = .ok (.if_icmp .ne 23, 3) := by decide +kernel
theorem dX1_work_122 : decode cX1_work 122 = .ok (.aload_n 0, 1) := by decide +kernel
theorem dX1_work_123 : decode cX1_work 123 = .ok (.getfield 32, 3) := by decide +kernel
theorem dX1_work_126 : decode cX1_work 126 = .ok (.iload 4, 2) := by decide +kernel
theorem dX1_work_128 : decode cX1_work 128 = .ok (.aload_n 0, 1) := by decide +kernel
theorem dX1_work_129 : decode cX1_work 129 = .ok (.getfield 26, 3) := by decide +kernel
theorem dX1_work_132 : decode cX1_work 132 = .ok (.iload 6, 2) := by decide +kernel
theorem dX1_work_134 : decode cX1_work 134 = .ok (.bipush 15, 2) := by decide +kernel
theorem dX1_work_136 : decode cX1_work 136 = .ok (.iand, 1) := by decide +kernel
theorem dX1_work_137 : decode cX1_work 137 = .ok (.iaload, 1) := by decide +kernel
theorem dX1_work_138 : decode cX1_work 138 = .ok (.iastore, 1) := by decide +kernel
theorem dX1_work_139 : decode cX1_work 139 = .ok (.goto 29, 3) := by decide +kernel
theorem dX1_work_142 : decode cX1_work 142 = .ok (.iload_n 2, 1) := by decide +kernel
theorem dX1_work_143 : decode cX1_work 143 = .ok (.bipush 8, 2) := by decide +kernel
theorem dX1_work_145 : decode cX1_work 145 = .ok (.if_icmp .ne 23, 3) := by decide +kernel
theorem dX1_work_148 : decode cX1_work 148 = .ok (.aload_n 0, 1) := by decide +kernel
theorem dX1_work_149 : decode cX1_work 149 = .ok (.getfield 29, 3) := by decide +kernel
theorem dX1_work_152 : decode cX1_work 152 = .ok (.aload_n 0, 1) := by decide +kernel
theorem dX1_work_153 : decode cX1_work 153 = .ok (.getfield 32, 3) := by decide +kernel
theorem dX1_work_156 : decode cX1_work 156 = .ok (.iload 4, 2) := by decide +kernel
theorem dX1_work_158 : decode cX1_work 158 = .ok (.iaload, 1) := by decide +kernel
theorem dX1_work_159 : decode cX1_work 159 = .ok (.bipush 15, 2) := by decide +kernel
theorem dX1_work_161 : decode cX1_work 161 = .ok (.iand, 1) := by decide +kernel
theorem dX1_work_162 : decode cX1_work 162 = .ok (.dup2, 1) := by decide +kernel
theorem dX1_work_163 : decode cX1_work 163 = .ok (.iaload, 1) := by decide +kernel
theorem dX1_work_164 : decode cX1_work 164 = .ok (.iload 6, 2) := by decide +kernel
theorem dX1_work_166 : decode cX1_work 166 = .ok (.iadd, 1) := by decide +kernel
theorem dX1_work_167 : decode cX1_work 167 = .ok (.iastore, 1) := by decide +kernel
theorem dX1_work_168 : decode cX1_work 168 = .ok (.return_, 1) := by decide +kernel
theorem dX1_calculate_0 : decode cX1_calculate 0 = .ok (.iload_n 0, 1) := by decide +kernel
theorem dX1_calculate_1 : decode cX1_calculate 1 = .ok (.iconst 1, 1) := by decide +kernel
theorem dX1_calculate_2 : decode cX1_calculate 2 = .ok (.if_icmp .ne 7, 3) := by decide +kernel
theorem dX1_calculate_5 : decode cX1_calculate 5 = .ok (.iload_n 1, 1) := by decide +kernel
theorem dX1_calculate_6 : decode cX1_calculate 6 = .ok (.iload_n 2, 1) := by decide +kernel
theorem dX1_calculate_7 : decode cX1_calculate 7 = .ok (.iadd, 1) := by decide +kernel
theorem dX1_calculate_8 : decode cX1_calculate 8 = .ok (.ireturn, 1) := by decide +kernel
theorem dX1_calculate_9 : decode cX1_calculate 9 = .ok (.iload_n 0, 1) := by decide +kernel
theorem dX1_calculate_10 : decode cX1_calculate 10 = .ok (.iconst 2, 1) := by decide +kernel
theorem dX1_calculate_11 : decode cX1_calculate 11 = .ok (.if_icmp .ne 7, 3) := by decide +kernel
theorem dX1_calculate_14 : decode cX1_calculate 14 = .ok (.iload_n 1, 1) := by decide +kernel
theorem dX1_calculate_15 : decode cX1_calculate 15 = .ok (.iload_n 2, 1) := by decide +kernel
theorem dX1_calculate_16 : decode cX1_calculate 16 = .ok (.isub, 1) := by decide +kernel
theorem dX1_calculate_17 : decode cX1_calculate 17 = .ok (.ireturn, 1) := by decide +kernel
theorem dX1_calculate_18 : decode cX1_calculate 18 = .ok (.iload_n 0, 1) := by decide +kernel
theorem dX1_calculate_19 : decode cX1_calculate 19 = .ok (.iconst 3, 1) := by decide +kernel
theorem dX1_calculate_20 : decode cX1_calculate 20 = .ok (.if_icmp .ne 7, 3) := by decide +kernel
theorem dX1_calculate_23 : decode cX1_calculate 23 = .ok (.iload_n 1, 1) := by decide +kernel
theorem dX1_calculate_24 : decode cX1_calculate 24 = .ok (.iload_n 2, 1) := by decide +kernel
theorem dX1_calculate_25 : decode cX1_calculate 25 = .ok (.imul, 1) := by decide +kernel
theorem dX1_calculate_26 : decode cX1_calculate 26 = .ok (.ireturn, 1) := by decide +kernel
theorem dX1_calculate_27 : decode cX1_calculate 27 = .ok (.iload_n 0, 1) := by decide +kernel
theorem dX1_calculate_28 : decode cX1_calculate 28 = .ok (.iconst 4, 1) := by decide +kernel
theorem dX1_calculate_29 : decode cX1_calculate 29 = .ok (.if_icmp .ne 7, 3) := by decide +kernel
theorem dX1_calculate_32 : decode cX1_calculate 32 = .ok (.iload_n 1, 1) := by decide +kernel
theorem dX1_calculate_33 : decode cX1_calculate 33 = .ok (.iload_n 2, 1) := by decide +kernel
theorem dX1_calculate_34 : decode cX1_calculate 34 = .ok (.iand, 1) := by decide +kernel
theorem dX1_calculate_35 : decode cX1_calculate 35 = .ok (.ireturn, 1) := by decide +kernel
theorem dX1_calculate_36 : decode cX1_calculate 36 = .ok (.iload_n 1, 1) := by decide +kernel
theorem dX1_calculate_37 : decode cX1_calculate 37 = .ok (.iload_n 2, 1) := by decide +kernel
theorem dX1_calculate_38 : decode cX1_calculate 38 = .ok (.if_icmp .ge 7, 3) := by decide +kernel
theorem dX1_calculate_41 : decode cX1_calculate 41 = .ok (.iconst 1, 1) := by decide +kernel
theorem dX1_calculate_42 : decode cX1_calculate 42 = .ok (.goto 4, 3) := by decide +kernel
theorem dX1_calculate_45 : decode cX1_calculate 45 = .ok (.iconst 0, 1) := by decide +kernel
theorem dX1_calculate_46 : decode cX1_calculate 46 = .ok (.ireturn, 1) := by decide +kernel
theorem dX1_branch_0 : decode cX1_branch 0 = .ok (.aload_n 0, 1) := by decide +kernel
theorem dX1_branch_1 : decode cX1_branch 1 = .ok (.getfield 20, 3) := by decide +kernel
theorem dX1_branch_4 : decode cX1_branch 4 = .ok (.iload_n 2, 1) := by decide +kernel
theorem dX1_branch_5 : decode cX1_branch 5 = .ok (.iaload, 1) := by decide +kernel
theorem dX1_branch_6 : decode cX1_branch 6 = .ok (.bipush 31, 2) := by decide +kernel
theorem dX1_branch_8 : decode cX1_branch 8 = .ok (.iand, 1) := by decide +kernel
theorem dX1_branch_9 : decode cX1_branch 9 = .ok (.istore 5, 2) := by decide +kernel
theorem dX1_branch_11 : decode cX1_branch 11 = .ok (.iload 4, 2) := by decide +kernel
theorem dX1_branch_13 : decode cX1_branch 13 = .ok (.ifCond .ne 14, 3) := by decide +kernel
theorem dX1_branch_16 : decode cX1_branch 16 = .ok (.aload_n 0, 1) := by decide +kernel
theorem dX1_branch_17 : decode cX1_branch 17 = .ok (.getfield 51, 3) := by decide +kernel
theorem dX1_branch_20 : decode cX1_branch 20 = .ok (.iload_n 1, 1) := by decide +kernel
theorem dX1_branch_21 : decode cX1_branch 21 = .ok (.iload 5, 2) := by decide +kernel
theorem dX1_branch_23 : decode cX1_branch 23 = .ok (.iastore, 1) := by decide +kernel
theorem dX1_branch_24 : decode cX1_branch 24 = .ok (.goto 55, 3) := by decide +kernel
theorem dX1_branch_27 : decode cX1_branch 27 = .ok (.iload_n 3, 1) := by decide +kernel
theorem dX1_branch_28 : decode cX1_branch 28 = .ok (.ifCond .ne 15, 3) := by decide +kernel
theorem dX1_branch_31 : decode cX1_branch 31 = .ok (.aload_n 0, 1) := by decide +kernel
theorem dX1_branch_32 : decode cX1_branch 32 = .ok (.getfield 51, 3) := by decide +kernel
theorem dX1_branch_35 : decode cX1_branch 35 = .ok (.iload_n 1, 1) := by decide +kernel
theorem dX1_branch_36 : decode cX1_branch 36 = .ok (.iload_n 2, 1) := by decide +kernel
theorem dX1_branch_37 : decode cX1_branch 37 = .ok (.iconst 1, 1) := by decide +kernel
theorem dX1_branch_38 : decode cX1_branch 38 = .ok (.iadd, 1) := by decide +kernel
theorem dX1_branch_39 : decode cX1_branch 39 = .ok (.iastore, 1) := by decide +kernel
theorem dX1_branch_40 : decode cX1_branch 40 = .ok (.goto 39, 3) := by decide +kernel
theorem dX1_branch_43 : decode cX1_branch 43 = .ok (.aload_n 0, 1) := by decide +kernel
theorem dX1_branch_44 : decode cX1_branch 44 = .ok (.getfield 48, 3) := by decide +kernel
theorem dX1_branch_47 : decode cX1_branch 47 = .ok (.iload_n 2, 1) := by decide +kernel
theorem dX1_branch_48 : decode cX1_branch 48 = .ok (.iaload, 1) := by decide +kernel
theorem dX1_branch_49 : decode cX1_branch 49 = .ok (.istore 6, 2) := by decide +kernel
theorem dX1_branch_51 : decode cX1_branch 51 = .ok (.aload_n 0, 1) := by decide +kernel
theorem dX1_branch_52 : decode cX1_branch 52 = .ok (.getfield 51, 3) := by decide +kernel
theorem dX1_branch_55 : decode cX1_branch 55 = .ok (.iload_n 1, 1) := by decide +kernel
theorem dX1_branch_56 : decode cX1_branch 56 = .ok (.iload 6, 2) := by decide +kernel
theorem dX1_branch_58 : decode cX1_branch 58 = .ok (.iastore, 1) := by decide +kernel
theorem dX1_branch_59 : decode cX1_branch 59 = .ok (.aload_n 0, 1) := by decide +kernel
theorem dX1_branch_60 : decode cX1_branch 60 = .ok (.iload_n 2, 1) := by decide +kernel
theorem dX1_branch_61 : decode cX1_branch 61 = .ok (.iconst 1, 1) := by decide +kernel
theorem dX1_branch_62 : decode cX1_branch 62 = .ok (.iadd, 1) := by decide +kernel
theorem dX1_branch_63 : decode cX1_branch 63 = .ok (.iload 6, 2) := by decide +kernel
theorem dX1_branch_65 : decode cX1_branch 65 = .ok (.iload 4, 2) := by decide +kernel
theorem dX1_branch_67 : decode cX1_branch 67 = .ok (.invokevirtual 109, 3) := by decide +kernel
theorem dX1_branch_70 : decode cX1_branch 70 = .ok (.aload_n 0, 1) := by decide +kernel
theorem dX1_branch_71 : decode cX1_branch 71 = .ok (.iload 5, 2) := by decide +kernel
theorem dX1_branch_73 : decode cX1_branch 73 = .ok (.iload 6, 2) := by decide +kernel
theorem dX1_branch_75 : decode cX1_branch 75 = .ok (.iload_n 3, 1) := by decide +kernel
theorem dX1_branch_76 : decode cX1_branch 76 = .ok (.invokevirtual 109, 3) := by decide +kernel
theorem dX1_branch_79 : decode cX1_branch 79 = .ok (.return_, 1) := by decide +kernel
theorem dX1_pushPart_0 : decode cX1_pushPart 0 = .ok (.aload_n 0, 1) := by decide +kernel
theorem dX1_pushPart_1 : decode cX1_pushPart 1 = .ok (.getfield 51, 3) := by decide +kernel
theorem dX1_pushPart_4 : decode cX1_pushPart 4 = .ok (.aload_n 0, 1) := by decide +kernel
theorem dX1_pushPart_5 : decode cX1_pushPart 5 = .ok (.getfield 69, 3) := by decide +kernel
theorem dX1_pushPart_8 : decode cX1_pushPart 8 = .ok (.iload_n 1, 1) := by decide +kernel
theorem dX1_pushPart_9 : decode cX1_pushPart 9 = .ok (.iastore, 1) := by decide +kernel
theorem dX1_pushPart_10 : decode cX1_pushPart 10 = .ok (.aload_n 0, 1) := by decide +kernel
theorem dX1_pushPart_11 : decode cX1_pushPart 11 = .ok (.getfield 54, 3) := by decide +kernel
theorem dX1_pushPart_14 : decode cX1_pushPart 14 = .ok (.aload_n 0, 1) := by decide +kernel
theorem dX1_pushPart_15 : decode cX1_pushPart 15 = .ok (.getfield 69, 3) := by decide +kernel
theorem dX1_pushPart_18 : decode cX1_pushPart 18 = .ok (.iload_n 2, 1) := by decide +kernel
theorem dX1_pushPart_19 : decode cX1_pushPart 19 = .ok (.iastore, 1) := by decide +kernel
theorem dX1_pushPart_20 : decode cX1_pushPart 20 = .ok (.aload_n 0, 1) := by decide +kernel
theorem dX1_pushPart_21 : decode cX1_pushPart 21 = .ok (.getfield 57, 3) := by decide +kernel
theorem dX1_pushPart_24 : decode cX1_pushPart 24 = .ok (.aload_n 0, 1) := by decide +kernel
theorem dX1_pushPart_25 : decode cX1_pushPart 25 = .ok (.getfield 69, 3) := by decide +kernel
theorem dX1_pushPart_28 : decode cX1_pushPart 28 = .ok (.iload_n 3, 1) := by decide +kernel
theorem dX1_pushPart_29 : decode cX1_pushPart 29 = .ok (.iastore, 1) := by decide +kernel
theorem dX1_pushPart_30 : decode cX1_pushPart 30 = .ok (.aload_n 0, 1) := by decide +kernel
theorem dX1_pushPart_31 : decode cX1_pushPart 31 = .ok (.dup, 1) := by decide +kernel
theorem dX1_pushPart_32 : decode cX1_pushPart 32 = .ok (.getfield 69, 3) := by decide +kernel
theorem dX1_pushPart_35 : decode cX1_pushPart 35 = .ok (.iconst 1, 1) := by decide +kernel
theorem dX1_pushPart_36 : decode cX1_pushPart 36 = .ok (.iadd, 1) := by decide +kernel
theorem dX1_pushPart_37 : decode cX1_pushPart 37 = .ok (.putfield 69, 3) := by decide +kernel
theorem dX1_pushPart_40 : decode cX1_pushPart 40 = .ok (.return_, 1) := by decide +kernel
theorem dX1_reg_0 : decode cX1_reg 0 = .ok (.aload_n 0, 1) := by decide +kernel
theorem dX1_reg_1 : decode cX1_reg 1 = .ok (.iload_n 1, 1) := by decide +kernel
theorem dX1_reg_2 : decode cX1_reg 2 = .ok (.invokevirtual 78, 3) := by decide +kernel
theorem dX1_reg_5 : decode cX1_reg 5 = .ok (.ifCond .eq 18, 3) := by decide +kernel
theorem dX1_reg_8 : decode cX1_reg 8 = .ok (.aload_n 0, 1) := by decide +kernel
theorem dX1_reg_9 : decode cX1_reg 9 = .ok (.getfield 32, 3) := by decide +kernel
theorem dX1_reg_12 : decode cX1_reg 12 = .ok (.iconst 4, 1) := by decide +kernel
theorem dX1_reg_13 : decode cX1_reg 13 = .ok (.iload_n 1, 1) := by decide +kernel
theorem dX1_reg_14 : decode cX1_reg 14 = .ok (.imul, 1) := by decide +kernel
theorem dX1_reg_15 : decode cX1_reg 15 = .ok (.iload_n 2, 1) := by decide +kernel
theorem dX1_reg_16 : decode cX1_reg 16 = .ok (.iconst 3, 1) := by decide +kernel
theorem dX1_reg_17 : decode cX1_reg 17 = .ok (.iand, 1) := by decide +kernel
theorem dX1_reg_18 : decode cX1_reg 18 = .ok (.iadd, 1) := by decide +kernel
theorem dX1_reg_19 : decode cX1_reg 19 = .ok (.iaload, 1) := by decide +kernel
theorem dX1_reg_20 : decode cX1_reg 20 = .ok (.goto 4, 3) := by decide +kernel
theorem dX1_reg_23 : decode cX1_reg 23 = .ok (.iconst 0, 1) := by decide +kernel
theorem dX1_reg_24 : decode cX1_reg 24 = .ok (.ireturn, 1) := by decide +kernel
theorem dX1_isThread_0 : decode cX1_isThread 0 = .ok (.iload_n 1, 1) := by decide +kernel
theorem dX1_isThread_1 : decode cX1_isThread 1 = .ok (.ifCond .lt 15, 3) := by decide +kernel
theorem dX1_isThread_4 : decode cX1_isThread 4 = .ok (.iload_n 1, 1) := by decide +kernel
theorem dX1_isThread_5 : decode cX1_isThread 5 = .ok (.aload_n 0, 1) := by decide +kernel
theorem dX1_isThread_6 : decode cX1_isThread 6 = .ok (.getfield 7, 3) := by decide +kernel
theorem dX1_isThread_9 : decode cX1_isThread 9 = .ok (.if_icmp .ge 7, 3) := by decide +kernel
theorem dX1_isThread_12 : decode cX1_isThread 12 = .ok (.iconst 1, 1) := by decide +kernel
theorem dX1_isThread_13 : decode cX1_isThread 13 = .ok (.goto 4, 3) := by decide +kernel
theorem dX1_isThread_16 : decode cX1_isThread 16 = .ok (.iconst 0, 1) := by decide +kernel
theorem dX1_isThread_17 : decode cX1_isThread 17 = .ok (.ireturn, 1) := by decide +kernel
theorem dX1_line_0 : decode cX1_line 0 = .ok (.aload_n 0, 1) := by decide +kernel
theorem dX1_line_1 : decode cX1_line 1 = .ok (.iload_n 1, 1) := by decide +kernel
theorem dX1_line_2 : decode cX1_line 2 = .ok (.invokevirtual 78, 3) := by decide +kernel
theorem dX1_line_5 : decode cX1_line 5 = .ok (.ifCond .eq 12, 3) := by decide +kernel
theorem dX1_line_8 : decode cX1_line 8 = .ok (.aload_n 0, 1) := by decide +kernel
theorem dX1_line_9 : decode cX1_line 9 = .ok (.getfield 35, 3) := by decide +kernel
theorem dX1_line_12 : decode cX1_line 12 = .ok (.iload_n 1, 1) := by decide +kernel
theorem dX1_line_13 : decode cX1_line 13 = .ok (.iaload, 1) := by decide +kernel
theorem dX1_line_14 : decode cX1_line 14 = .ok (.goto 4, 3) := by decide +kernel
theorem dX1_line_17 : decode cX1_line 17 = .ok (.iconst (-1), 1) := by decide +kernel
theorem dX1_line_18 : decode cX1_line 18 = .ok (.ireturn, 1) := by decide +kernel
theorem dX1_steps_0 : decode cX1_steps 0 = .ok (.aload_n 0, 1) := by decide +kernel
theorem dX1_steps_1 : decode cX1_steps 1 = .ok (.iload_n 1, 1) := by decide +kernel
theorem dX1_steps_2 : decode cX1_steps 2 = .ok (.invokevirtual 78, 3) := by decide +kernel
theorem dX1_steps_5 : decode cX1_steps 5 = .ok (.ifCond .eq 12, 3) := by decide +kernel
theorem dX1_steps_8 : decode cX1_steps 8 = .ok (.aload_n 0, 1) := by decide +kernel
theorem dX1_steps_9 : decode cX1_steps 9 = .ok (.getfield 38, 3) := by decide +kernel
theorem dX1_steps_12 : decode cX1_steps 12 = .ok (.iload_n 1, 1) := by decide +kernel
theorem dX1_steps_13 : decode cX1_steps 13 = .ok (.iaload, 1) := by decide +kernel
theorem dX1_steps_14 : decode cX1_steps 14 = .ok (.goto 4, 3) := by decide +kernel
theorem dX1_steps_17 : decode cX1_steps 17 = .ok (.iconst (-1), 1) := by decide +kernel
theorem dX1_steps_18 : decode cX1_steps 18 = .ok (.ireturn, 1) := by decide +kernel
theorem dX1_state_0 : decode cX1_state 0 = .ok (.aload_n 0, 1) := by decide +kernel
theorem dX1_state_1 : decode cX1_state 1 = .ok (.iload_n 1, 1) := by decide +kernel
theorem dX1_state_2 : decode cX1_state 2 = .ok (.invokevirtual 78, 3) := by decide +kernel
theorem dX1_state_5 : decode cX1_state 5 = .ok (.ifCond .eq 12, 3) := by decide +kernel
theorem dX1_state_8 : decode cX1_state 8 = .ok (.aload_n 0, 1) := by decide +kernel
theorem dX1_state_9 : decode cX1_state 9 = .ok (.getfield 41, 3) := by decide +kernel
theorem dX1_state_12 : decode cX1_state 12 = .ok (.iload_n 1, 1) := by decide +kernel
theorem dX1_state_13 : decode cX1_state 13 = .ok (.iaload, 1) := by decide +kernel
theorem dX1_state_14 : decode cX1_state 14 = .ok (.goto 4, 3) := by decide +kernel
theorem dX1_state_17 : decode cX1_state 17 = .ok (.iconst (-1), 1) := by decide +kernel
theorem dX1_state_18 : decode cX1_state 18 = .ok (.ireturn, 1) := by decide +kernel
theorem dX1_output_0 : decode cX1_output 0 = .ok (.aload_n 0, 1) := by decide +kernel
theorem dX1_output_1 : decode cX1_output 1 = .ok (.getfield 29, 3) := by decide +kernel
theorem dX1_output_4 : decode cX1_output 4 = .ok (.iload_n 1, 1) := by decide +kernel
theorem dX1_output_5 : decode cX1_output 5 = .ok (.bipush 15, 2) := by decide +kernel
theorem dX1_output_7 : decode cX1_output 7 = .ok (.iand, 1) := by decide +kernel
theorem dX1_output_8 : decode cX1_output 8 = .ok (.iaload, 1) := by decide +kernel
theorem dX1_output_9 : decode cX1_output 9 = .ok (.ireturn, 1) := by decide +kernel
end
section
set_option maxRecDepth 100000
theorem dX2_init_0 : decode cX2_init 0 = .ok (.aload_n 0, 1) := by decide +kernel
theorem dX2_init_1 : decode cX2_init 1 = .ok (.invokespecial 1, 3) := by decide +kernel
theorem dX2_init_4 : decode cX2_init 4 = .ok (.aload_n 0, 1) := by decide +kernel
theorem dX2_init_5 : decode cX2_init 5 = .ok (.bipush 32, 2) := by decide +kernel
theorem dX2_init_7 : decode cX2_init 7 = .ok (.newarray .int, 2) := by decide +kernel
theorem dX2_init_9 : decode cX2_init 9 = .ok (.putfield 7, 3) := by decide +kernel
theorem dX2_init_12 : decode cX2_init 12 = .ok (.aload_n 0, 1) := by decide +kernel
theorem dX2_init_13 : decode cX2_init 13 = .ok (.bipush 32, 2) := by decide +kernel
theorem dX2_init_15 : decode cX2_init 15 = .ok (.newarray .int, 2) := by decide +kernel
theorem dX2_init_17 : decode cX2_init 17 = .ok (.putfield 13, 3) := by decide +kernel
theorem dX2_init_20 : decode cX2_init 20 = .ok (.aload_n 0, 1) := by decide +kernel
theorem dX2_init_21 : decode cX2_init 21 = .ok (.bipush 32, 2) := by decide +kernel
theorem dX2_init_23 : decode cX2_init 23 = .ok (.newarray .int, 2) := by decide +kernel
theorem dX2_init_25 : decode cX2_init 25 = .ok (.putfield 16, 3) := by decide +kernel
theorem dX2_init_28 : decode cX2_init 28 = .ok (.aload_n 0, 1) := by decide +kernel
theorem dX2_init_29 : decode cX2_init 29 = .ok (.bipush 32, 2) := by decide +kernel
theorem dX2_init_31 : decode cX2_init 31 = .ok (.newarray .int, 2) := by decide +kernel
theorem dX2_init_33 : decode cX2_init 33 = .ok (.putfield 19, 3) := by decide +kernel
theorem dX2_init_36 : decode cX2_init 36 = .ok (.aload_n 0, 1) := by decide +kernel
theorem dX2_init_37 : decode cX2_init 37 = .ok (.bipush 16, 2) := by decide +kernel
theorem dX2_init_39 : decode cX2_init 39 = .ok (.newarray .int, 2) := by decide +kernel
theorem dX2_init_41 : decode cX2_init 41 = .ok (.putfield 22, 3) := by decide +kernel
theorem dX2_init_44 : decode cX2_init 44 = .ok (.aload_n 0, 1) := by decide +kernel
theorem dX2_init_45 : decode cX2_init 45 = .ok (.bipush 16, 2) := by decide +kernel
theorem dX2_init_47 : decode cX2_init 47 = .ok (.newarray .int, 2) := by decide +kernel
theorem dX2_init_49 : decode cX2_init 49 = .ok (.putfield 25, 3) := by decide +kernel
theorem dX2_init_52 : decode cX2_init 52 = .ok (.aload_n 0, 1) := by decide +kernel
theorem dX2_init_53 : decode cX2_init 53 = .ok (.bipush 32, 2) := by decide +kernel
theorem dX2_init_55 : decode cX2_init 55 = .ok (.newarray .int, 2) := by decide +kernel
theorem dX2_init_57 : decode cX2_init 57 = .ok (.putfield 28, 3) := by decide +kernel
theorem dX2_init_60 : decode cX2_init 60 = .ok (.aload_n 0, 1) := by decide +kernel
theorem dX2_init_61 : decode cX2_init 61 = .ok (.bipush 8, 2) := by decide +kernel
theorem dX2_init_63 : decode cX2_init 63 = .ok (.newarray .int, 2) := by decide +kernel
theorem dX2_init_65 : decode cX2_init 65 = .ok (.putfield 31, 3) := by decide +kernel
theorem dX2_init_68 : decode cX2_init 68 = .ok (.aload_n 0, 1) := by decide +kernel
theorem dX2_init_69 : decode cX2_init 69 = .ok (.bipush 8, 2) := by decide +kernel
theorem dX2_init_71 : decode cX2_init 71 = .ok (.newarray .int, 2) := by decide +kernel
theorem dX2_init_73 : decode cX2_init 73 = .ok (.putfield 34, 3) := by decide +kernel
theorem dX2_init_76 : decode cX2_init 76 = .ok (.aload_n 0, 1) := by decide +kernel
theorem dX2_init_77 : decode cX2_init 77 = .ok (.bipush 8, 2) := by decide +kernel
theorem dX2_init_79 : decode cX2_init 79 = .ok (.newarray .int, 2) := by decide +kernel
theorem dX2_init_81 : decode cX2_init 81 = .ok (.putfield 37, 3) := by decide +kernel
theorem dX2_init_84 : decode cX2_init 84 = .ok (.aload_n 0, 1) := by decide +kernel
theorem dX2_init_85 : decode cX2_init 85 = .ok (.iload_n 1, 1) := by decide +kernel
theorem dX2_init_86 : decode cX2_init 86 = .ok (.iconst 1, 1) := by decide +kernel
theorem dX2_init_87 : decode cX2_init 87 = .ok (.if_icmp .ge 7, 3) := by decide +kernel
theorem dX2_init_90 : decode cX2_init 90 = .ok (.iconst 1, 1) := by decide +kernel
theorem dX2_init_91 : decode cX2_init 91 = .ok (.goto 15, 3) := by decide +kernel
theorem dX2_init_94 : decode cX2_init 94 = .ok (.iload_n 1, 1) := by decide +kernel
theorem dX2_init_95 : decode cX2_init 95 = .ok (.bipush 8, 2) := by decide +kernel
theorem dX2_init_97 : decode cX2_init 97 = .ok (.if_icmp .le 8, 3) := by decide +kernel
theorem dX2_init_100 : decode cX2_init 100 = .ok (.bipush 8, 2) := by decide +kernel
theorem dX2_init_102 : decode cX2_init 102 = .ok (.goto 4, 3) := by decide +kernel
theorem dX2_init_105 : decode cX2_init 105 = .ok (.iload_n 1, 1) := by decide +kernel
theorem dX2_init_106 : decode cX2_init 106 = .ok (.putfield 40, 3) := by decide +kernel
theorem dX2_init_109 : decode cX2_init 109 = .ok (.return_, 1) := by decide +kernel
theorem dX2_emit_0 : decode cX2_emit 0 = .ok (.iload_n 1, 1) := by decide +kernel
theorem dX2_emit_1 : decode cX2_emit 1 = .ok (.ifCond .lt 18, 3) := by decide +kernel
theorem dX2_emit_4 : decode cX2_emit 4 = .ok (.iload_n 1, 1) := by decide +kernel
theorem dX2_emit_5 : decode cX2_emit 5 = .ok (.bipush 11, 2) := by decide +kernel
theorem dX2_emit_7 : decode cX2_emit 7 = .ok (.if_icmp .gt 12, 3) := by decide +kernel
theorem dX2_emit_10 : decode cX2_emit 10 = .ok (.aload_n 0, 1) := by decide +kernel
theorem dX2_emit_11 : decode cX2_emit 11 = .ok (.getfield 44, 3) := by decide +kernel
theorem dX2_emit_14 : decode cX2_emit 14 = .ok (.bipush 32, 2) := by decide +kernel
theorem dX2_emit_16 : decode cX2_emit 16 = .ok (.if_icmp .ne 5, 3) := by decide +kernel
theorem dX2_emit_19 : decode cX2_emit 19 = .ok (.iconst (-1), 1) := by decide +kernel
theorem dX2_emit_20 : decode cX2_emit 20 = .ok (.ireturn, 1) := by decide +kernel
theorem dX2_emit_21 : decode cX2_emit 21 = .ok (.aload_n 0, 1) := by decide +kernel
theorem dX2_emit_22 : decode cX2_emit 22 = .ok (.getfield 7, 3) := by decide +kernel
theorem dX2_emit_25 : decode cX2_emit 25 = .ok (.aload_n 0, 1) := by decide +kernel
theorem dX2_emit_26 : decode cX2_emit 26 = .ok (.getfield 44, 3) := by decide +kernel
theorem dX2_emit_29 : decode cX2_emit 29 = .ok (.iload_n 1, 1) := by decide +kernel
theorem dX2_emit_30 : decode cX2_emit 30 = .ok (.iastore, 1) := by decide +kernel
theorem dX2_emit_31 : decode cX2_emit 31 = .ok (.aload_n 0, 1) := by decide +kernel
theorem dX2_emit_32 : decode cX2_emit 32 = .ok (.getfield 13, 3) := by decide +kernel
theorem dX2_emit_35 : decode cX2_emit 35 = .ok (.aload_n 0, 1) := by decide +kernel
theorem dX2_emit_36 : decode cX2_emit 36 = .ok (.getfield 44, 3) := by decide +kernel
theorem dX2_emit_39 : decode cX2_emit 39 = .ok (.iload_n 2, 1) := by decide +kernel
theorem dX2_emit_40 : decode cX2_emit 40 = .ok (.iastore, 1) := by decide +kernel
theorem dX2_emit_41 : decode cX2_emit 41 = .ok (.aload_n 0, 1) := by decide +kernel
theorem dX2_emit_42 : decode cX2_emit 42 = .ok (.getfield 16, 3) := by decide +kernel
theorem dX2_emit_45 : decode cX2_emit 45 = .ok (.aload_n 0, 1) := by decide +kernel
theorem dX2_emit_46 : decode cX2_emit 46 = .ok (.getfield 44, 3) := by decide +kernel
theorem dX2_emit_49 : decode cX2_emit 49 = .ok (.iload_n 3, 1) := by decide +kernel
theorem dX2_emit_50 : decode cX2_emit 50 = .ok (.iastore, 1) := by decide +kernel
theorem dX2_emit_51 : decode cX2_emit 51 = .ok (.aload_n 0, 1) := by decide +kernel
theorem dX2_emit_52 : decode cX2_emit 52 = .ok (.getfield 19, 3) := by decide +kernel
theorem dX2_emit_55 : decode cX2_emit 55 = .ok (.aload_n 0, 1) := by decide +kernel
theorem dX2_emit_56 : decode cX2_emit 56 = .ok (.getfield 44, 3) := by decide +kernel
theorem dX2_emit_59 : decode cX2_emit 59 = .ok (.iload 4, 2) := by decide +kernel
theorem dX2_emit_61 : decode cX2_emit 61 = .ok (.iastore, 1) := by decide +kernel
theorem dX2_emit_62 : decode cX2_emit 62 = .ok (.aload_n 0, 1) := by decide +kernel
theorem dX2_emit_63 : decode cX2_emit 63 = .ok (.dup, 1) := by decide +kernel
theorem dX2_emit_64 : decode cX2_emit 64 = .ok (.getfield 44, 3) := by decide +kernel
theorem dX2_emit_67 : decode cX2_emit 67 = .ok (.iconst 1, 1) := by decide +kernel
theorem dX2_emit_68 : decode cX2_emit 68 = .ok (.iadd, 1) := by decide +kernel
theorem dX2_emit_69 : decode cX2_emit 69 = .ok (.putfield 44, 3) := by decide +kernel
theorem dX2_emit_72 : decode cX2_emit 72 = .ok (.aload_n 0, 1) := by decide +kernel
theorem dX2_emit_73 : decode cX2_emit 73 = .ok (.getfield 44, 3) := by decide +kernel
theorem dX2_emit_76 : decode cX2_emit 76 = .ok (.ireturn, 1) := by decide +kernel
theorem dX2_clear_0 : decode cX2_clear 0 = .ok (.aload_n 0, 1) := by decide +kernel
theorem dX2_clear_1 : decode cX2_clear 1 = .ok (.iconst 0, 1) := by decide +kernel
theorem dX2_clear_2 : decode cX2_clear 2 = .ok (.putfield 44, 3) := by decide +kernel
theorem dX2_clear_5 : decode cX2_clear 5 = .ok (.return_, 1) := by decide +kernel
theorem dX2_input_0 : decode cX2_input 0 = .ok (.aload_n 0, 1) := by decide +kernel
theorem dX2_input_1 : decode cX2_input 1 = .ok (.getfield 22, 3) := by decide +kernel
theorem dX2_input_4 : decode cX2_input 4 = .ok (.iload_n 1, 1) := by decide +kernel
theorem dX2_input_5 : decode cX2_input 5 = .ok (.bipush 15, 2) := by decide +kernel
theorem dX2_input_7 : decode cX2_input 7 = .ok (.iand, 1) := by decide +kernel
theorem dX2_input_8 : decode cX2_input 8 = .ok (.iload_n 2, 1) := by decide +kernel
theorem dX2_input_9 : decode cX2_input 9 = .ok (.iastore, 1) := by decide +kernel
theorem dX2_input_10 : decode cX2_input 10 = .ok (.return_, 1) := by decide +kernel
theorem dX2_run_0 : decode cX2_run 0 = .ok (.iconst 0, 1) := by decide +kernel
theorem dX2_run_1 : decode cX2_run 1 = .ok (.istore_n 1, 1) := by decide +kernel
theorem dX2_run_2 : decode cX2_run 2 = .ok (.iload_n 1, 1) := by decide +kernel
theorem dX2_run_3 : decode cX2_run 3 = .ok (.bipush 16, 2) := by decide +kernel
theorem dX2_run_5 : decode cX2_run 5 = .ok (.if_icmp .ge 16, 3) := by decide +kernel
theorem dX2_run_8 : decode cX2_run 8 = .ok (.aload_n 0, 1) := by decide +kernel
theorem dX2_run_9 : decode cX2_run 9 = .ok (.getfield 25, 3) := by decide +kernel
theorem dX2_run_12 : decode cX2_run 12 = .ok (.iload_n 1, 1) := by decide +kernel
theorem dX2_run_13 : decode cX2_run 13 = .ok (.iconst 0, 1) := by decide +kernel
theorem dX2_run_14 : decode cX2_run 14 = .ok (.iastore, 1) := by decide +kernel
theorem dX2_run_15 : decode cX2_run 15 = .ok (.iinc 1 1, 3) := by decide +kernel
theorem dX2_run_18 : decode cX2_run 18 = .ok (.goto (-16), 3) := by decide +kernel
theorem dX2_run_21 : decode cX2_run 21 = .ok (.iconst 0, 1) := by decide +kernel
theorem dX2_run_22 : decode cX2_run 22 = .ok (.istore_n 1, 1) := by decide +kernel
theorem dX2_run_23 : decode cX2_run 23 = .ok (.iconst 0, 1) := by decide +kernel
theorem dX2_run_24 : decode cX2_run 24 = .ok (.istore_n 2, 1) := by decide +kernel
theorem dX2_run_25 : decode cX2_run 25 = .ok (.iload_n 2, 1) := by decide +kernel
theorem dX2_run_26 : decode cX2_run 26 = .ok (.aload_n 0, 1) := by decide +kernel
theorem dX2_run_27 : decode cX2_run 27 = .ok (.getfield 40, 3) := by decide +kernel
theorem dX2_run_30 : decode cX2_run 30 = .ok (.if_icmp .ge 27, 3) := by decide +kernel
theorem dX2_run_33 : decode cX2_run 33 = .ok (.aload_n 0, 1) := by decide +kernel
theorem dX2_run_34 : decode cX2_run 34 = .ok (.iload_n 2, 1) := by decide +kernel
theorem dX2_run_35 : decode cX2_run 35 = .ok (.invokevirtual 55, 3) := by decide +kernel
theorem dX2_run_38 : decode cX2_run 38 = .ok (.aload_n 0, 1) := by decide +kernel
theorem dX2_run_39 : decode cX2_run 39 = .ok (.getfield 37, 3) := by decide +kernel
theorem dX2_run_42 : decode cX2_run 42 = .ok (.iload_n 2, 1) := by decide +kernel
theorem dX2_run_43 : decode cX2_run 43 = .ok (.iaload, 1) := by decide +kernel
theorem dX2_run_44 : decode cX2_run 44 = .ok (.iconst 1, 1) := by decide +kernel
theorem dX2_run_45 : decode cX2_run 45 = .ok (.if_icmp .ne 6, 3) := by decide +kernel
theorem dX2_run_48 : decode cX2_run 48 = .ok (.iinc 1 1, 3) := by decide +kernel
theorem dX2_run_51 : decode cX2_run 51 = .ok (.iinc 2 1, 3) := by decide +kernel
theorem dX2_run_54 : decode cX2_run 54 = .ok (.goto (-29), 3) := by decide +kernel
theorem dX2_run_57 : decode cX2_run 57 = .ok (.iload_n 1, 1) := by decide +kernel
theorem dX2_run_58 : decode cX2_run 58 = .ok (.ireturn, 1) := by decide +kernel
theorem dX2_runThread_0 : decode cX2_runThread 0 = .ok (.iconst 0, 1) := by decide +kernel
theorem dX2_runThread_1 : decode cX2_runThread 1 = .ok (.istore_n 2, 1) := by decide +kernel
theorem dX2_runThread_2 : decode cX2_runThread 2 = .ok (.iload_n 2, 1) := by decide +kernel
theorem dX2_runThread_3 : decode cX2_runThread 3 = .ok (.iconst 4, 1) := by decide +kernel
theorem dX2_runThread_4 : decode cX2_runThread 4 = .ok (.if_icmp .ge 20, 3) := by decide +kernel
theorem dX2_runThread_7 : decode cX2_runThread 7 = .ok (.aload_n 0, 1) := by decide +kernel
theorem dX2_runThread_8 : decode cX2_runThread 8 = .ok (.getfield 28, 3) := by decide +kernel
theorem dX2_runThread_11 : decode cX2_runThread 11 = .ok (.iconst 4, 1) := by decide +kernel
theorem dX2_runThread_12 : decode cX2_runThread 12 = .ok (.iload_n 1, 1) := by decide +kernel
theorem dX2_runThread_13 : decode cX2_runThread 13 = .ok (.imul, 1) := by decide +kernel
theorem dX2_runThread_14 : decode cX2_runThread 14 = .ok (.iload_n 2, 1) := by decide +kernel
theorem dX2_runThread_15 : decode cX2_runThread 15 = .ok (.iadd, 1) := by decide +kernel
theorem dX2_runThread_16 : decode cX2_runThread 16 = .ok (.iconst 0, 1) := by decide +kernel
theorem dX2_runThread_17 : decode cX2_runThread 17 = .ok (.iastore, 1) := by decide +kernel
theorem dX2_runThread_18 : decode cX2_runThread 18 = .ok (.iinc 2 1, 3) := by decide +kernel
theorem dX2_runThread_21 : decode cX2_runThread 21 = .ok (.goto (-19), 3) := by decide +kernel
theorem dX2_runThread_24 : decode cX2_runThread 24 = .ok (.aload_n 0, 1) := by decide +kernel
theorem dX2_runThread_25 : decode cX2_runThread 25 = .ok (.getfield 31, 3) := by decide +kernel
theorem dX2_runThread_28 : decode cX2_runThread 28 = .ok (.iload_n 1, 1) := by decide +kernel
theorem dX2_runThread_29 : decode cX2_runThread 29 = .ok (.iconst 0, 1) := by decide +kernel
theorem dX2_runThread_30 : decode cX2_runThread 30 = .ok (.iastore, 1) := by decide +kernel
theorem dX2_runThread_31 : decode cX2_runThread 31 = .ok (.aload_n 0, 1) := by decide +kernel
theorem dX2_runThread_32 : decode cX2_runThread 32 = .ok (.getfield 34, 3) := by decide +kernel
theorem dX2_runThread_35 : decode cX2_runThread 35 = .ok (.iload_n 1, 1) := by decide +kernel
theorem dX2_runThread_36 : decode cX2_runThread 36 = .ok (.iconst 0, 1) := by decide +kernel
theorem dX2_runThread_37 : decode cX2_runThread 37 = .ok (.iastore, 1) := by decide +kernel
theorem dX2_runThread_38 : decode cX2_runThread 38 = .ok (.aload_n 0, 1) := by decide +kernel
theorem dX2_runThread_39 : decode cX2_runThread 39 = .ok (.getfield 37, 3) := by decide +kernel
theorem dX2_runThread_42 : decode cX2_runThread 42 = .ok (.iload_n 1, 1) := by decide +kernel
theorem dX2_runThread_43 : decode cX2_runThread 43 = .ok (.iconst 2, 1) := by decide +kernel
theorem dX2_runThread_44 : decode cX2_runThread 44 = .ok (.iastore, 1) := by decide +kernel
theorem dX2_runThread_45 : decode cX2_runThread 45 = .ok (.iconst 0, 1) := by decide +kernel
theorem dX2_runThread_46 : decode cX2_runThread 46 = .ok (.istore_n 2, 1) := by decide +kernel
theorem dX2_runThread_47 : decode cX2_runThread 47 = .ok (.iload_n 2, 1) := by decide +kernel
theorem dX2_runThread_48 : decode cX2_runThread 48 = .ok (.bipush 48, 2) := by decide +kernel
theorem dX2_runThread_50 : decode cX2_runThread 50 = .ok (.if_icmp .ge 79, 3) := by decide +kernel
theorem dX2_runThread_53 : decode cX2_runThread 53 = .ok (.aload_n 0, 1) := by decide +kernel
theorem dX2_runThread_54 : decode cX2_runThread 54 = .ok (.getfield 31, 3) := by decide +kernel
theorem dX2_runThread_57 : decode cX2_runThread 57 = .ok (.iload_n 1, 1) := by decide +kernel
theorem dX2_runThread_58 : decode cX2_runThread 58 = .ok (.iaload, 1) := by decide +kernel
theorem dX2_runThread_59 : decode cX2_runThread 59 = .ok (.aload_n 0, 1) := by decide +kernel
theorem dX2_runThread_60 : decode cX2_runThread 60 = .ok (.getfield 44, 3) := by decide +kernel
theorem dX2_runThread_63 : decode cX2_runThread 63 = .ok (.if_icmp .ge 66, 3) := by decide +kernel
theorem dX2_runThread_66 : decode cX2_runThread 66 = .ok (.aload_n 0, 1) := by decide +kernel
theorem dX2_runThread_67 : decode cX2_runThread 67 = .ok (.getfield 37, 3) := by decide +kernel
theorem dX2_runThread_70 : decode cX2_runThread 70 = .ok (.iload_n 1, 1) := by decide +kernel
theorem dX2_runThread_71 : decode cX2_runThread 71 = .ok (.iaload, 1) := by decide +kernel
theorem dX2_runThread_72 : decode cX2_runThread 72 = .ok (.iconst 2, 1) := by decide +kernel
theorem dX2_runThread_73 : decode cX2_runThread 73 = .ok (.if_icmp .ne 56, 3) := by decide +kernel
theorem dX2_runThread_76 : decode cX2_runThread 76 = .ok (.aload_n 0, 1) := by decide +kernel
theorem dX2_runThread_77 : decode cX2_runThread 77 = .ok (.getfield 34, 3) := by decide +kernel
theorem dX2_runThread_80 : decode cX2_runThread 80 = .ok (.iload_n 1, 1) := by decide +kernel
theorem dX2_runThread_81 : decode cX2_runThread 81 = .ok (.dup2, 1) := by decide +kernel
theorem dX2_runThread_82 : decode cX2_runThread 82 = .ok (.iaload, 1) := by decide +kernel
theorem dX2_runThread_83 : decode cX2_runThread 83 = .ok (.iconst 1, 1) := by decide +kernel
theorem dX2_runThread_84 : decode cX2_runThread 84 = .ok (.iadd, 1) := by decide +kernel
theorem dX2_runThread_85 : decode cX2_runThread 85 = .ok (.iastore, 1) := by decide +kernel
theorem dX2_runThread_86 : decode cX2_runThread 86 = .ok (.aload_n 0, 1) := by decide +kernel
theorem dX2_runThread_87 : decode cX2_runThread 87 = .ok (.getfield 7, 3) := by decide +kernel
theorem dX2_runThread_90 : decode cX2_runThread 90 = .ok (.aload_n 0, 1) := by decide +kernel
theorem dX2_runThread_91 : decode cX2_runThread 91 = .ok (.getfield 31, 3) := by decide +kernel
theorem dX2_runThread_94 : decode cX2_runThread 94 = .ok (.iload_n 1, 1) := by decide +kernel
theorem dX2_runThread_95 : decode cX2_runThread 95 = .ok (.iaload, 1) := by decide +kernel
theorem dX2_runThread_96 : decode cX2_runThread 96 = .ok (.iaload, 1) := by decide +kernel
theorem dX2_runThread_97 : decode cX2_runThread 97 = .ok (.bipush 11, 2) := by decide +kernel
theorem dX2_runThread_99 : decode cX2_runThread 99 = .ok (.if_icmp .ne 13, 3) := by decide +kernel
theorem dX2_runThread_102 : decode cX2_runThread 102 = .ok (.aload_n 0, 1) := by decide +kernel
theorem dX2_runThread_103 : decode cX2_runThread 103 = .ok (.getfield 37, 3) := by decide +kernel
theorem dX2_runThread_106 : decode cX2_runThread 106 = .ok (.iload_n 1, 1) := by decide +kernel
theorem dX2_runThread_107 : decode cX2_runThread 107 = .ok (.iconst 1, 1) := by decide +kernel
theorem dX2_runThread_108 : decode cX2_runThread 108 = .ok (.iastore, 1) := by decide +kernel
theorem dX2_runThread_109 : decode cX2_runThread 109 = .ok (.goto 14, 3) := by decide +kernel
theorem dX2_runThread_112 : decode cX2_runThread 112 = .ok (.aload_n 0, 1) := by decide +kernel
theorem dX2_runThread_113 : decode cX2_runThread 113 = .ok (.getfield 31, 3) := by decide +kernel
theorem dX2_runThread_116 : decode cX2_runThread 116 = .ok (.iload_n 1, 1) := by decide +kernel
theorem dX2_runThread_117 : decode cX2_runThread 117 = .ok (.aload_n 0, 1) := by decide +kernel
theorem dX2_runThread_118 : decode cX2_runThread 118 = .ok (.iload_n 1, 1) := by decide +kernel
theorem dX2_runThread_119 : decode cX2_runThread 119 = .ok (.invokevirtual 51, 3) := by decide +kernel
theorem dX2_runThread_122 : decode cX2_runThread 122 = .ok (.iastore, 1) := by decide +kernel
theorem dX2_runThread_123 : decode cX2_runThread 123 = .ok (.iinc 2 1, 3) := by decide +kernel
theorem dX2_runThread_126 : decode cX2_runThread 126 = .ok (.goto (-79), 3) := by decide +kernel
theorem dX2_runThread_129 : decode cX2_runThread 129 = .ok (.aload_n 0, 1) := by decide +kernel
theorem dX2_runThread_130 : decode cX2_runThread 130 = .ok (.getfield 31, 3) := by decide +kernel
theorem dX2_runThread_133 : decode cX2_runThread 133 = .ok (.iload_n 1, 1) := by decide +kernel
theorem dX2_runThread_134 : decode cX2_runThread 134 = .ok (.iaload, 1) := by decide +kernel
theorem dX2_runThread_135 : decode cX2_runThread 135 = .ok (.aload_n 0, 1) := by decide +kernel
theorem dX2_runThread_136 : decode cX2_runThread 136 = .ok (.getfield 44, 3) := by decide +kernel
theorem dX2_runThread_139 : decode cX2_runThread 139 = .ok (.if_icmp .lt 10, 3) := by decide +kernel
theorem dX2_runThread_142 : decode cX2_runThread 142 = .ok (.aload_n 0, 1) := by decide +kernel
theorem dX2_runThread_143 : decode cX2_runThread 143 = .ok (.getfield 37, 3) := by decide +kernel
theorem dX2_runThread_146 : decode cX2_runThread 146 = .ok (.iload_n 1, 1) := by decide +kernel
theorem dX2_runThread_147 : decode cX2_runThread 147 = .ok (.iconst 1, 1) := by decide +kernel
theorem dX2_runThread_148 : decode cX2_runThread 148 = .ok (.iastore, 1) := by decide +kernel
theorem dX2_runThread_149 : decode cX2_runThread 149 = .ok (.return_, 1) := by decide +kernel
theorem dX2_carryOut_0 : decode cX2_carryOut 0 = .ok (.aload_n 0, 1) := by decide +kernel
theorem dX2_carryOut_1 : decode cX2_carryOut 1 = .ok (.getfield 31, 3) := by decide +kernel
theorem dX2_carryOut_4 : decode cX2_carryOut 4 = .ok (.iload_n 1, 1) := by decide +kernel
theorem dX2_carryOut_5 : decode cX2_carryOut 5 = .ok (.iaload, 1) := by decide +kernel
theorem dX2_carryOut_6 : decode cX2_carryOut 6 = .ok (.istore_n 2, 1) := by decide +kernel
theorem dX2_carryOut_7 : decode cX2_carryOut 7 = .ok (.aload_n 0, 1) := by decide +kernel
theorem dX2_carryOut_8 : decode cX2_carryOut 8 = .ok (.getfield 7, 3) := by decide +kernel
theorem dX2_carryOut_11 : decode cX2_carryOut 11 = .ok (.iload_n 2, 1) := by decide +kernel
theorem dX2_carryOut_12 : decode cX2_carryOut 12 = .ok (.iaload, 1) := by decide +kernel
theorem dX2_carryOut_13 : decode cX2_carryOut 13 = .ok (.istore_n 3, 1) := by decide +kernel
theorem dX2_carryOut_14 : decode cX2_carryOut 14 = .ok (.iconst 4, 1) := by decide +kernel
theorem dX2_carryOut_15 : decode cX2_carryOut 15 = .ok (.iload_n 1, 1) := by decide +kernel
theorem dX2_carryOut_16 : decode cX2_carryOut 16 = .ok (.imul, 1) := by decide +kernel
theorem dX2_carryOut_17 : decode cX2_carryOut 17 = .ok (.aload_n 0, 1) := by decide +kernel
theorem dX2_carryOut_18 : decode cX2_carryOut 18 = .ok (.getfield 13, 3) := by decide +kernel
theorem dX2_carryOut_21 : decode cX2_carryOut 21 = .ok (.iload_n 2, 1) := by decide +kernel
theorem dX2_carryOut_22 : decode cX2_carryOut 22 = .ok (.iaload, 1) := by decide +kernel
theorem dX2_carryOut_23 : decode cX2_carryOut 23 = .ok (.iconst 3, 1) := by decide +kernel
theorem dX2_carryOut_24 : decode cX2_carryOut 24 = .ok (.iand, 1) := by decide +kernel
theorem dX2_carryOut_25 : decode cX2_carryOut 25 = .ok (.iadd, 1) := by decide +kernel
theorem dX2_carryOut_26 : decode cX2_carryOut 26 = .ok (.istore 4, 2) := by decide +kernel
theorem dX2_carryOut_28 : decode cX2_carryOut 28 = .ok (.aload_n 0, 1) := by decide +kernel
theorem dX2_carryOut_29 : decode cX2_carryOut 29 = .ok (.getfield 28, 3) := by decide +kernel
theorem dX2_carryOut_32 : decode cX2_carryOut 32 = .ok (.iconst 4, 1) := by decide +kernel
theorem dX2_carryOut_33 : decode cX2_carryOut 33 = .ok (.iload_n 1, 1) := by decide +kernel
theorem dX2_carryOut_34 : decode cX2_carryOut 34 = .ok (.imul, 1) := by decide +kernel
theorem dX2_carryOut_35 : decode cX2_carryOut 35 = .ok (.aload_n 0, 1) := by decide +kernel
theorem dX2_carryOut_36 : decode cX2_carryOut 36 = .ok (.getfield 16, 3) := by decide +kernel
theorem dX2_carryOut_39 : decode cX2_carryOut 39 = .ok (.iload_n 2, 1) := by decide +kernel
theorem dX2_carryOut_40 : decode cX2_carryOut 40 = .ok (.iaload, 1) := by decide +kernel
theorem dX2_carryOut_41 : decode cX2_carryOut 41 = .ok (.iconst 3, 1) := by decide +kernel
theorem dX2_carryOut_42 : decode cX2_carryOut 42 = .ok (.iand, 1) := by decide +kernel
theorem dX2_carryOut_43 : decode cX2_carryOut 43 = .ok (.iadd, 1) := by decide +kernel
theorem dX2_carryOut_44 : decode cX2_carryOut 44 = .ok (.iaload, 1) := by decide +kernel
theorem dX2_carryOut_45 : decode cX2_carryOut 45 = .ok (.istore 5, 2) := by decide +kernel
theorem dX2_carryOut_47 : decode cX2_carryOut 47 = .ok (.aload_n 0, 1) := by decide +kernel
theorem dX2_carryOut_48 : decode cX2_carryOut 48 = .ok (.getfield 28, 3) := by decide +kernel
theorem dX2_carryOut_51 : decode cX2_carryOut 51 = .ok (.iconst 4, 1) := by decide +kernel
theorem dX2_carryOut_52 : decode cX2_carryOut 52 = .ok (.iload_n 1, 1) := by decide +kernel
theorem dX2_carryOut_53 : decode cX2_carryOut 53 = .ok (.imul, 1) := by decide +kernel
theorem dX2_carryOut_54 : decode cX2_carryOut 54 = .ok (.aload_n 0, 1) := by decide +kernel
theorem dX2_carryOut_55 : decode cX2_carryOut 55 = .ok (.getfield 19, 3) := by decide +kernel
theorem dX2_carryOut_58 : decode cX2_carryOut 58 = .ok (.iload_n 2, 1) := by decide +kernel
theorem dX2_carryOut_59 : decode cX2_carryOut 59 = .ok (.iaload, 1) := by decide +kernel
theorem dX2_carryOut_60 : decode cX2_carryOut 60 = .ok (.iconst 3, 1) := by decide +kernel
theorem dX2_carryOut_61 : decode cX2_carryOut 61 = .ok (.iand, 1) := by decide +kernel
theorem dX2_carryOut_62 : decode cX2_carryOut 62 = .ok (.iadd, 1) := by decide +kernel
theorem dX2_carryOut_63 : decode cX2_carryOut 63 = .ok (.iaload, 1) := by decide +kernel
theorem dX2_carryOut_64 : decode cX2_carryOut 64 = .ok (.istore 6, 2) := by decide +kernel
theorem dX2_carryOut_66 : decode cX2_carryOut 66 = .ok (.iload_n 3, 1) := by decide +kernel
theorem dX2_carryOut_67 : decode cX2_carryOut 67 = .ok (.ifCond .ne 16, 3) := by decide +kernel
theorem dX2_carryOut_70 : decode cX2_carryOut 70 = .ok (.aload_n 0, 1) := by decide +kernel
theorem dX2_carryOut_71 : decode cX2_carryOut 71 = .ok (.getfield 28, 3) := by decide +kernel
theorem dX2_carryOut_74 : decode cX2_carryOut 74 = .ok (.iload 4, 2) := by decide +kernel
theorem dX2_carryOut_76 : decode cX2_carryOut 76 = .ok (.aload_n 0, 1) := by decide +kernel
theorem dX2_carryOut_77 : decode cX2_carryOut 77 = .ok (.getfield 16, 3) := by decide +kernel
theorem dX2_carryOut_80 : decode cX2_carryOut 80 = .ok (.iload_n 2, 1) := by decide +kernel
theorem dX2_carryOut_81 : decode cX2_carryOut 81 = .ok (.iaload, 1) := by decide +kernel
theorem dX2_carryOut_82 : decode cX2_carryOut 82 = .ok (.iastore, 1) := by decide +kernel
theorem dX2_carryOut_83 : decode cX2_carryOut 83 = .ok (.iload_n 3, 1) := by decide +kernel
theorem dX2_carryOut_84 : decode cX2_carryOut 84 = .ok (.iconst 1, 1) := by decide +kernel
theorem dX2_carryOut_85 : decode cX2_carryOut 85 = .ok (.if_icmp .lt 23, 3) := by decide +kernel
theorem dX2_carryOut_88 : decode cX2_carryOut 88 = .ok (.iload_n 3, 1) := by decide +kernel
theorem dX2_carryOut_89 : decode cX2_carryOut 89 = .ok (.iconst 5, 1) := by decide +kernel
theorem dX2_carryOut_90 : decode cX2_carryOut 90 = .ok (.if_icmp .gt 18, 3) := by decide +kernel
theorem dX2_carryOut_93 : decode cX2_carryOut 93 = .ok (.aload_n 0, 1) := by decide +kernel
theorem dX2_carryOut_94 : decode cX2_carryOut 94 = .ok (.getfield 28, 3) := by decide +kernel
theorem dX2_carryOut_97 : decode cX2_carryOut 97 = .ok (.iload 4, 2) := by decide +kernel
theorem dX2_carryOut_99 : decode cX2_carryOut 99 = .ok (.iload_n 3, 1) := by decide +kernel
theorem dX2_carryOut_100 : decode cX2_carryOut 100 = .ok (.iload 5, 2) := by decide +kernel
theorem dX2_carryOut_102 : decode cX2_carryOut 102 = .ok (.iload 6, 2) := by decide +kernel
theorem dX2_carryOut_104 : decode cX2_carryOut 104 = .ok (.invokestatic 47, 3) := by decide +kernel
theorem dX2_carryOut_107 : decode cX2_carryOut 107 = .ok (.iastore, 1) := by decide +kernel
theorem dX2_carryOut_108 : decode cX2_carryOut 108 = .ok (.iload_n 3, 1) := by decide +kernel
theorem dX2_carryOut_109 : decode cX2_carryOut 109 = .ok (.bipush 6, 2) := by decide +kernel
theorem dX2_carryOut_111 : decode cX2_carryOut 111 = .ok (.if_icmp .ne 11, 3) := by decide +kernel
theorem dX2_carryOut_114 : decode cX2_carryOut 114 = .ok (.aload_n 0, 1) := by decide +kernel
theorem dX2_carryOut_115 : decode cX2_carryOut 115 = .ok (.getfield 28, 3) := by decide +kernel
theorem dX2_carryOut_118 : decode cX2_carryOut 118 = .ok (.iload 4, 2) := by decide +kernel
theorem dX2_carryOut_120 : decode cX2_carryOut 120 = .ok (.iload_n 1, 1) := by decide +kernel
theorem dX2_carryOut_121 : decode cX2_carryOut 121 = .ok (.iastore, 1) := by decide +kernel
theorem dX2_carryOut_122 : decode cX2_carryOut 122 = .ok (.iload_n 3, 1) := by decide +kernel
theorem dX2_carryOut_123 : decode cX2_carryOut 123 = .ok (.bipush 7, 2) := by decide +kernel
theorem dX2_carryOut_125 : decode cX2_carryOut 125 = .ok (.if_icmp .ne 20, 3) := by decide +kernel
theorem dX2_carryOut_128 : decode cX2_carryOut 128 = .ok (.aload_n 0, 1) := by decide +kernel
theorem dX2_carryOut_129 : decode cX2_carryOut 129 = .ok (.getfield 28, 3) := by decide +kernel
theorem dX2_carryOut_132 : decode cX2_carryOut 132 = .ok (.iload 4, 2) := by decide +kernel
theorem dX2_carryOut_134 : decode cX2_carryOut 134 = .ok (.aload_n 0, 1) := by decide +kernel
theorem dX2_carryOut_135 : decode cX2_carryOut 135 = .ok (.getfield 22, 3) := by decide +kernel
theorem dX2_carryOut_138 : decode cX2_carryOut 138 = .ok (.iload 5, 2) := by decide +kernel
theorem dX2_carryOut_140 : decode cX2_carryOut 140 = .ok (.bipush 15, 2) := by decide +kernel
theorem dX2_carryOut_142 : decode cX2_carryOut 142 = .ok (.iand, 1) := by decide +kernel
theorem dX2_carryOut_143 : decode cX2_carryOut 143 = .ok (.iaload, 1) := by decide +kernel
theorem dX2_carryOut_144 : decode cX2_carryOut 144 = .ok (.iastore, 1) := by decide +kernel
theorem dX2_carryOut_145 : decode cX2_carryOut 145 = .ok (.iload_n 3, 1) := by decide +kernel
theorem dX2_carryOut_146 : decode cX2_carryOut 146 = .ok (.bipush 8, 2) := by decide +kernel
theorem dX2_carryOut_148 : decode cX2_carryOut 148 = .ok (.if_icmp .ne 23, 3) := by decide +kernel
theorem dX2_carryOut_151 : decode cX2_carryOut 151 = .ok (.aload_n 0, 1) := by decide +kernel
theorem dX2_carryOut_152 : decode cX2_carryOut 152 = .ok (.getfield 25, 3) := by decide +kernel
theorem dX2_carryOut_155 : decode cX2_carryOut 155 = .ok (.aload_n 0, 1) := by decide +kernel
theorem dX2_carryOut_156 : decode cX2_carryOut 156 = .ok (.getfield 28, 3) := by decide +kernel
theorem dX2_carryOut_159 : decode cX2_carryOut 159 = .ok (.iload 4, 2) := by decide +kernel
theorem dX2_carryOut_161 : decode cX2_carryOut 161 = .ok (.iaload, 1) := by decide +kernel
theorem dX2_carryOut_162 : decode cX2_carryOut 162 = .ok (.bipush 15, 2) := by decide +kernel
theorem dX2_carryOut_164 : decode cX2_carryOut 164 = .ok (.iand, 1) := by decide +kernel
theorem dX2_carryOut_165 : decode cX2_carryOut 165 = .ok (.dup2, 1) := by decide +kernel
theorem dX2_carryOut_166 : decode cX2_carryOut 166 = .ok (.iaload, 1) := by decide +kernel
theorem dX2_carryOut_167 : decode cX2_carryOut 167 = .ok (.iload 5, 2) := by decide +kernel
theorem dX2_carryOut_169 : decode cX2_carryOut 169 = .ok (.iadd, 1) := by decide +kernel
theorem dX2_carryOut_170 : decode cX2_carryOut 170 = .ok (.iastore, 1) := by decide +kernel
theorem dX2_carryOut_171 : decode cX2_carryOut 171 = .ok (.iload_n 3, 1) := by decide +kernel
theorem dX2_carryOut_172 : decode cX2_carryOut 172 = .ok (.bipush 9, 2) := by decide +kernel
theorem dX2_carryOut_174 : decode cX2_carryOut 174 = .ok (.if_icmp .eq 19, 3) := by decide +kernel
theorem dX2_carryOut_177 : decode cX2_carryOut 177 = .ok (.iload_n 3, 1) := by decide +kernel
theorem dX2_carryOut_178 : decode cX2_carryOut 178 = .ok (.bipush 10, 2) := by decide +kernel
theorem dX2_carryOut_180 : decode cX2_carryOut 180 = .ok (.if_icmp .ne 23, 3) := by decide +kernel
theorem dX2_carryOut_183 : decode cX2_carryOut 183 = .ok (.aload_n 0, 1) := by decide +kernel
theorem dX2_carryOut_184 : decode cX2_carryOut 184 = .ok (.getfield 28, 3) := by decide +kernel
theorem dX2_carryOut_187 : decode cX2_carryOut 187 = .ok (.iload 4, 2) := by decide +kernel
theorem dX2_carryOut_189 : decode cX2_carryOut 189 = .ok (.iaload, 1) := by decide +kernel
theorem dX2_carryOut_190 : decode cX2_carryOut 190 = .ok (.ifCond .ne 13, 3) := by decide +kernel
theorem dX2_carryOut_193 : decode cX2_carryOut 193 = .ok (.aload_n 0, 1) := by decide +kernel
theorem dX2_carryOut_194 : decode cX2_carryOut 194 = .ok (.getfield 16, 3) := by decide +kernel
theorem dX2_carryOut_197 : decode cX2_carryOut 197 = .ok (.iload_n 2, 1) := by decide +kernel
theorem dX2_carryOut_198 : decode cX2_carryOut 198 = .ok (.iaload, 1) := by decide +kernel
theorem dX2_carryOut_199 : decode cX2_carryOut 199 = .ok (.bipush 31, 2) := by decide +kernel
theorem dX2_carryOut_201 : decode cX2_carryOut 201 = .ok (.iand, 1) := by decide +kernel
theorem dX2_carryOut_202 : decode cX2_carryOut 202 = .ok (.ireturn, 1) := by decide +kernel
theorem dX2_carryOut_203 : decode cX2_carryOut 203 = .ok (.iload_n 2, 1) := by decide +kernel
theorem dX2_carryOut_204 : decode cX2_carryOut 204 = .ok (.iconst 1, 1) := by decide +kernel
theorem dX2_carryOut_205 : decode cX2_carryOut 205 = .ok (.iadd, 1) := by decide +kernel
theorem dX2_carryOut_206 : decode cX2_carryOut 206 = .ok (.ireturn, 1) := by decide +kernel
theorem dX2_worked_0 : decode cX2_worked 0 = .ok (.iload_n 0, 1) := by decide +kernel
theorem dX2_worked_1 : decode cX2_worked 1 = .ok (.iconst 1, 1) := by decide +kernel
theorem dX2_worked_2 : decode cX2_worked 2 = .ok (.if_icmp .ne 7, 3) := by decide +kernel
theorem dX2_worked_5 : decode cX2_worked 5 = .ok (.iload_n 1, 1) := by decide +kernel
theorem dX2_worked_6 : decode cX2_worked 6 = .ok (.iload_n 2, 1) := by decide +kernel
theorem dX2_worked_7 : decode cX2_worked 7 = .ok (.iadd, 1) := by decide +kernel
theorem dX2_worked_8 : decode cX2_worked 8 = .ok (.ireturn, 1) := by decide +kernel
theorem dX2_worked_9 : decode cX2_worked 9 = .ok (.iload_n 0, 1) := by decide +kernel
theorem dX2_worked_10 : decode cX2_worked 10 = .ok (.iconst 2, 1) := by decide +kernel
theorem dX2_worked_11 : decode cX2_worked 11 = .ok (.if_icmp .ne 7, 3) := by decide +kernel
theorem dX2_worked_14 : decode cX2_worked 14 = .ok (.iload_n 1, 1) := by decide +kernel
theorem dX2_worked_15 : decode cX2_worked 15 = .ok (.iload_n 2, 1) := by decide +kernel
theorem dX2_worked_16 : decode cX2_worked 16 = .ok (.isub, 1) := by decide +kernel
theorem dX2_worked_17 : decode cX2_worked 17 = .ok (.ireturn, 1) := by decide +kernel
theorem dX2_worked_18 : decode cX2_worked 18 = .ok (.iload_n 0, 1) := by decide +kernel
theorem dX2_worked_19 : decode cX2_worked 19 = .ok (.iconst 3, 1) := by decide +kernel
theorem dX2_worked_20 : decode cX2_worked 20 = .ok (.if_icmp .ne 7, 3) := by decide +kernel
theorem dX2_worked_23 : decode cX2_worked 23 = .ok (.iload_n 1, 1) := by decide +kernel
theorem dX2_worked_24 : decode cX2_worked 24 = .ok (.iload_n 2, 1) := by decide +kernel
theorem dX2_worked_25 : decode cX2_worked 25 = .ok (.imul, 1) := by decide +kernel
theorem dX2_worked_26 : decode cX2_worked 26 = .ok (.ireturn, 1) := by decide +kernel
theorem dX2_worked_27 : decode cX2_worked 27 = .ok (.iload_n 0, 1) := by decide +kernel
theorem dX2_worked_28 : decode cX2_worked 28 = .ok (.iconst 4, 1) := by decide +kernel
theorem dX2_worked_29 : decode cX2_worked 29 = .ok (.if_icmp .ne 7, 3) := by decide +kernel
theorem dX2_worked_32 : decode cX2_worked 32 = .ok (.iload_n 1, 1) := by decide +kernel
theorem dX2_worked_33 : decode cX2_worked 33 = .ok (.iload_n 2, 1) := by decide +kernel
theorem dX2_worked_34 : decode cX2_worked 34 = .ok (.iand, 1) := by decide +kernel
theorem dX2_worked_35 : decode cX2_worked 35 = .ok (.ireturn, 1) := by decide +kernel
theorem dX2_worked_36 : decode cX2_worked 36 = .ok (.iload_n 1, 1) := by decide +kernel
theorem dX2_worked_37 : decode cX2_worked 37 = .ok (.iload_n 2, 1) := by decide +kernel
theorem dX2_worked_38 : decode cX2_worked 38 = .ok (.if_icmp .ge 7, 3) := by decide +kernel
theorem dX2_worked_41 : decode cX2_worked 41 = .ok (.iconst 1, 1) := by decide +kernel
theorem dX2_worked_42 : decode cX2_worked 42 = .ok (.goto 4, 3) := by decide +kernel
theorem dX2_worked_45 : decode cX2_worked 45 = .ok (.iconst 0, 1) := by decide +kernel
theorem dX2_worked_46 : decode cX2_worked 46 = .ok (.ireturn, 1) := by decide +kernel
theorem dX2_reg_0 : decode cX2_reg 0 = .ok (.aload_n 0, 1) := by decide +kernel
theorem dX2_reg_1 : decode cX2_reg 1 = .ok (.iload_n 1, 1) := by decide +kernel
theorem dX2_reg_2 : decode cX2_reg 2 = .ok (.invokevirtual 59, 3) := by decide +kernel
theorem dX2_reg_5 : decode cX2_reg 5 = .ok (.ifCond .eq 7, 3) := by decide +kernel
theorem dX2_reg_8 : decode cX2_reg 8 = .ok (.iconst 0, 1) := by decide +kernel
theorem dX2_reg_9 : decode cX2_reg 9 = .ok (.goto 15, 3) := by decide +kernel
theorem dX2_reg_12 : decode cX2_reg 12 = .ok (.aload_n 0, 1) := by decide +kernel
theorem dX2_reg_13 : decode cX2_reg 13 = .ok (.getfield 28, 3) := by decide +kernel
theorem dX2_reg_16 : decode cX2_reg 16 = .ok (.iconst 4, 1) := by decide +kernel
theorem dX2_reg_17 : decode cX2_reg 17 = .ok (.iload_n 1, 1) := by decide +kernel
theorem dX2_reg_18 : decode cX2_reg 18 = .ok (.imul, 1) := by decide +kernel
theorem dX2_reg_19 : decode cX2_reg 19 = .ok (.iload_n 2, 1) := by decide +kernel
theorem dX2_reg_20 : decode cX2_reg 20 = .ok (.iconst 3, 1) := by decide +kernel
theorem dX2_reg_21 : decode cX2_reg 21 = .ok (.iand, 1) := by decide +kernel
theorem dX2_reg_22 : decode cX2_reg 22 = .ok (.iadd, 1) := by decide +kernel
theorem dX2_reg_23 : decode cX2_reg 23 = .ok (.iaload, 1) := by decide +kernel
theorem dX2_reg_24 : decode cX2_reg 24 = .ok (.ireturn, 1) := by decide +kernel
theorem dX2_missing_0 : decode cX2_missing 0 = .ok (.iload_n 1, 1) := by decide +kernel
theorem dX2_missing_1 : decode cX2_missing 1 = .ok (.ifCond .lt 11, 3) := by decide +kernel
theorem dX2_missing_4 : decode cX2_missing 4 = .ok (.iload_n 1, 1) := by decide +kernel
theorem dX2_missing_5 : decode cX2_missing 5 = .ok (.aload_n 0, 1) := by decide +kernel
theorem dX2_missing_6 : decode cX2_missing 6 = .ok (.getfield 40, 3) := by decide +kernel
theorem dX2_missing_9 : decode cX2_missing 9 = .ok (.if_icmp .lt 7, 3) := by decide +kernel
theorem dX2_missing_12 : decode cX2_missing 12 = .ok (.iconst 1, 1) := by decide +kernel
theorem dX2_missing_13 : decode cX2_missing 13 = .ok (.goto 4, 3) := by decide +kernel
theorem dX2_missing_16 : decode cX2_missing 16 = .ok (.iconst 0, 1) := by decide +kernel
theorem dX2_missing_17 : decode cX2_missing 17 = .ok (.ireturn, 1) := by decide +kernel
theorem dX2_line_0 : decode cX2_line 0 = .ok (.aload_n 0, 1) := by decide +kernel
theorem dX2_line_1 : decode cX2_line 1 = .ok (.iload_n 1, 1) := by decide +kernel
theorem dX2_line_2 : decode cX2_line 2 = .ok (.invokevirtual 59, 3) := by decide +kernel
theorem dX2_line_5 : decode cX2_line 5 = .ok (.ifCond .eq 7, 3) := by decide +kernel
theorem dX2_line_8 : decode cX2_line 8 = .ok (.iconst (-1), 1) := by decide +kernel
theorem dX2_line_9 : decode cX2_line 9 = .ok (.goto 9, 3) := by decide +kernel
theorem dX2_line_12 : decode cX2_line 12 = .ok (.aload_n 0, 1) := by decide +kernel
theorem dX2_line_13 : decode cX2_line 13 = .ok (.getfield 31, 3) := by decide +kernel
theorem dX2_line_16 : decode cX2_line 16 = .ok (.iload_n 1, 1) := by decide +kernel
theorem dX2_line_17 : decode cX2_line 17 = .ok (.iaload, 1) := by decide +kernel
theorem dX2_line_18 : decode cX2_line 18 = .ok (.ireturn, 1) := by decide +kernel
theorem dX2_steps_0 : decode cX2_steps 0 = .ok (.aload_n 0, 1) := by decide +kernel
theorem dX2_steps_1 : decode cX2_steps 1 = .ok (.iload_n 1, 1) := by decide +kernel
theorem dX2_steps_2 : decode cX2_steps 2 = .ok (.invokevirtual 59, 3) := by decide +kernel
theorem dX2_steps_5 : decode cX2_steps 5 = .ok (.ifCond .eq 7, 3) := by decide +kernel
theorem dX2_steps_8 : decode cX2_steps 8 = .ok (.iconst (-1), 1) := by decide +kernel
theorem dX2_steps_9 : decode cX2_steps 9 = .ok (.goto 9, 3) := by decide +kernel
theorem dX2_steps_12 : decode cX2_steps 12 = .ok (.aload_n 0, 1) := by decide +kernel
theorem dX2_steps_13 : decode cX2_steps 13 = .ok (.getfield 34, 3) := by decide +kernel
theorem dX2_steps_16 : decode cX2_steps 16 = .ok (.iload_n 1, 1) := by decide +kernel
theorem dX2_steps_17 : decode cX2_steps 17 = .ok (.iaload, 1) := by decide +kernel
theorem dX2_steps_18 : decode cX2_steps 18 = .ok (.ireturn, 1) := by decide +kernel
theorem dX2_state_0 : decode cX2_state 0 = .ok (.aload_n 0, 1) := by decide +kernel
theorem dX2_state_1 : decode cX2_state 1 = .ok (.iload_n 1, 1) := by decide +kernel
theorem dX2_state_2 : decode cX2_state 2 = .ok (.invokevirtual 59, 3) := by decide +kernel
theorem dX2_state_5 : decode cX2_state 5 = .ok (.ifCond .eq 7, 3) := by decide +kernel
theorem dX2_state_8 : decode cX2_state 8 = .ok (.iconst (-1), 1) := by decide +kernel
theorem dX2_state_9 : decode cX2_state 9 = .ok (.goto 9, 3) := by decide +kernel
theorem dX2_state_12 : decode cX2_state 12 = .ok (.aload_n 0, 1) := by decide +kernel
theorem dX2_state_13 : decode cX2_state 13 = .ok (.getfield 37, 3) := by decide +kernel
theorem dX2_state_16 : decode cX2_state 16 = .ok (.iload_n 1, 1) := by decide +kernel
theorem dX2_state_17 : decode cX2_state 17 = .ok (.iaload, 1) := by decide +kernel
theorem dX2_state_18 : decode cX2_state 18 = .ok (.ireturn, 1) := by decide +kernel
theorem dX2_output_0 : decode cX2_output 0 = .ok (.aload_n 0, 1) := by decide +kernel
theorem dX2_output_1 : decode cX2_output 1 = .ok (.getfield 25, 3) := by decide +kernel
theorem dX2_output_4 : decode cX2_output 4 = .ok (.iload_n 1, 1) := by decide +kernel
theorem dX2_output_5 : decode cX2_output 5 = .ok (.bipush 15, 2) := by decide +kernel
theorem dX2_output_7 : decode cX2_output 7 = .ok (.iand, 1) := by decide +kernel
theorem dX2_output_8 : decode cX2_output 8 = .ok (.iaload, 1) := by decide +kernel
theorem dX2_output_9 : decode cX2_output 9 = .ok (.ireturn, 1) := by decide +kernel
end
section
set_option maxRecDepth 100000
theorem dJ0_init_0 : decode cJ0_init 0 = .ok (.return_, 1) := by decide +kernel
theorem dX0_cell_0 : decode cX0_cell 0 = .ok (.iload_n 1, 1) := by decide +kernel
theorem dX0_cell_1 : decode cX0_cell 1 = .ok (.aload_n 0, 1) := by decide +kernel
theorem dX0_cell_2 : decode cX0_cell 2 = .ok (.arraylength, 1) := by decide +kernel
theorem dX0_cell_3 : decode cX0_cell 3 = .ok (.if_icmp .ge 9, 3) := by decide +kernel
theorem dX0_cell_6 : decode cX0_cell 6 = .ok (.aload_n 0, 1) := by decide +kernel
theorem dX0_cell_7 : decode cX0_cell 7 = .ok (.iload_n 1, 1) := by decide +kernel
theorem dX0_cell_8 : decode cX0_cell 8 = .ok (.iaload, 1) := by decide +kernel
theorem dX0_cell_9 : decode cX0_cell 9 = .ok (.goto 4, 3) := by decide +kernel
theorem dX0_cell_12 : decode cX0_cell 12 = .ok (.iconst 0, 1) := by decide +kernel
theorem dX0_cell_13 : decode cX0_cell 13 = .ok (.ireturn, 1) := by decide +kernel
theorem dL_law_0 : decode cL_law 0 = .ok (.new 7, 3) := by decide +kernel
theorem dL_law_3 : decode cL_law 3 = .ok (.dup, 1) := by decide +kernel
theorem dL_law_4 : decode cL_law 4 = .ok (.aload_n 0, 1) := by decide +kernel
theorem dL_law_5 : decode cL_law 5 = .ok (.iconst 0, 1) := by decide +kernel
theorem dL_law_6 : decode cL_law 6 = .ok (.invokestatic 9, 3) := by decide +kernel
theorem dL_law_9 : decode cL_law 9 = .ok (.invokespecial 15, 3) := by decide +kernel
theorem dL_law_12 : decode cL_law 12 = .ok (.astore_n 1, 1) := by decide +kernel
theorem dL_law_13 : decode cL_law 13 = .ok (.new 18, 3) := by decide +kernel
theorem dL_law_16 : decode cL_law 16 = .ok (.dup, 1) := by decide +kernel
theorem dL_law_17 : decode cL_law 17 = .ok (.aload_n 0, 1) := by decide +kernel
theorem dL_law_18 : decode cL_law 18 = .ok (.iconst 0, 1) := by decide +kernel
theorem dL_law_19 : decode cL_law 19 = .ok (.invokestatic 9, 3) := by decide +kernel
theorem dL_law_22 : decode cL_law 22 = .ok (.invokespecial 20, 3) := by decide +kernel
theorem dL_law_25 : decode cL_law 25 = .ok (.astore_n 2, 1) := by decide +kernel
theorem dL_law_26 : decode cL_law 26 = .ok (.iconst 1, 1) := by decide +kernel
theorem dL_law_27 : decode cL_law 27 = .ok (.istore_n 3, 1) := by decide +kernel
theorem dL_law_28 : decode cL_law 28 = .ok (.iload_n 3, 1) := by decide +kernel
theorem dL_law_29 : decode cL_law 29 = .ok (.aload_n 0, 1) := by decide +kernel
theorem dL_law_30 : decode cL_law 30 = .ok (.arraylength, 1) := by decide +kernel
theorem dL_law_31 : decode cL_law 31 = .ok (.iconst 5, 1) := by decide +kernel
theorem dL_law_32 : decode cL_law 32 = .ok (.isub, 1) := by decide +kernel
theorem dL_law_33 : decode cL_law 33 = .ok (.if_icmp .gt 298, 3) := by decide +kernel
theorem dL_law_36 : decode cL_law 36 = .ok (.aload_n 0, 1) := by decide +kernel
theorem dL_law_37 : decode cL_law 37 = .ok (.iload_n 3, 1) := by decide +kernel
theorem dL_law_38 : decode cL_law 38 = .ok (.iaload, 1) := by decide +kernel
theorem dL_law_39 : decode cL_law 39 = .ok (.bipush 15, 2) := by decide +kernel
theorem dL_law_41 : decode cL_law 41 = .ok (.iand, 1) := by decide +kernel
theorem dL_law_42 : decode cL_law 42 = .ok (.tableswitch 283 0 8 #[50, 103, 114, 145, 158, 191, 214, 237, 260], 50) := by decide +kernel
theorem dL_law_92 : decode cL_law 92 = .ok (.aload_n 1, 1) := by decide +kernel
theorem dL_law_93 : decode cL_law 93 = .ok (.aload_n 0, 1) := by decide +kernel
theorem dL_law_94 : decode cL_law 94 = .ok (.iload_n 3, 1) := by decide +kernel
theorem dL_law_95 : decode cL_law 95 = .ok (.iconst 1, 1) := by decide +kernel
theorem dL_law_96 : decode cL_law 96 = .ok (.iadd, 1) := by decide +kernel
theorem dL_law_97 : decode cL_law 97 = .ok (.iaload, 1) := by decide +kernel
theorem dL_law_98 : decode cL_law 98 = .ok (.aload_n 0, 1) := by decide +kernel
theorem dL_law_99 : decode cL_law 99 = .ok (.iload_n 3, 1) := by decide +kernel
theorem dL_law_100 : decode cL_law 100 = .ok (.iconst 2, 1) := by decide +kernel
theorem dL_law_101 : decode cL_law 101 = .ok (.iadd, 1) := by decide +kernel
theorem dL_law_102 : decode cL_law 102 = .ok (.iaload, 1) := by decide +kernel
theorem dL_law_103 : decode cL_law 103 = .ok (.aload_n 0, 1) := by decide +kernel
theorem dL_law_104 : decode cL_law 104 = .ok (.iload_n 3, 1) := by decide +kernel
theorem dL_law_105 : decode cL_law 105 = .ok (.iconst 3, 1) := by decide +kernel
theorem dL_law_106 : decode cL_law 106 = .ok (.iadd, 1) := by decide +kernel
theorem dL_law_107 : decode cL_law 107 = .ok (.iaload, 1) := by decide +kernel
theorem dL_law_108 : decode cL_law 108 = .ok (.aload_n 0, 1) := by decide +kernel
theorem dL_law_109 : decode cL_law 109 = .ok (.iload_n 3, 1) := by decide +kernel
theorem dL_law_110 : decode cL_law 110 = .ok (.iconst 4, 1) := by decide +kernel
theorem dL_law_111 : decode cL_law 111 = .ok (.iadd, 1) := by decide +kernel
theorem dL_law_112 : decode cL_law 112 = .ok (.iaload, 1) := by decide +kernel
theorem dL_law_113 : decode cL_law 113 = .ok (.invokevirtual 21, 3) := by decide +kernel
theorem dL_law_116 : decode cL_law 116 = .ok (.aload_n 2, 1) := by decide +kernel
theorem dL_law_117 : decode cL_law 117 = .ok (.aload_n 0, 1) := by decide +kernel
theorem dL_law_118 : decode cL_law 118 = .ok (.iload_n 3, 1) := by decide +kernel
theorem dL_law_119 : decode cL_law 119 = .ok (.iconst 1, 1) := by decide +kernel
theorem dL_law_120 : decode cL_law 120 = .ok (.iadd, 1) := by decide +kernel
theorem dL_law_121 : decode cL_law 121 = .ok (.iaload, 1) := by decide +kernel
theorem dL_law_122 : decode cL_law 122 = .ok (.aload_n 0, 1) := by decide +kernel
theorem dL_law_123 : decode cL_law 123 = .ok (.iload_n 3, 1) := by decide +kernel
theorem dL_law_124 : decode cL_law 124 = .ok (.iconst 2, 1) := by decide +kernel
theorem dL_law_125 : decode cL_law 125 = .ok (.iadd, 1) := by decide +kernel
theorem dL_law_126 : decode cL_law 126 = .ok (.iaload, 1) := by decide +kernel
theorem dL_law_127 : decode cL_law 127 = .ok (.aload_n 0, 1) := by decide +kernel
theorem dL_law_128 : decode cL_law 128 = .ok (.iload_n 3, 1) := by decide +kernel
theorem dL_law_129 : decode cL_law 129 = .ok (.iconst 3, 1) := by decide +kernel
theorem dL_law_130 : decode cL_law 130 = .ok (.iadd, 1) := by decide +kernel
theorem dL_law_131 : decode cL_law 131 = .ok (.iaload, 1) := by decide +kernel
theorem dL_law_132 : decode cL_law 132 = .ok (.aload_n 0, 1) := by decide +kernel
theorem dL_law_133 : decode cL_law 133 = .ok (.iload_n 3, 1) := by decide +kernel
theorem dL_law_134 : decode cL_law 134 = .ok (.iconst 4, 1) := by decide +kernel
theorem dL_law_135 : decode cL_law 135 = .ok (.iadd, 1) := by decide +kernel
theorem dL_law_136 : decode cL_law 136 = .ok (.iaload, 1) := by decide +kernel
theorem dL_law_137 : decode cL_law 137 = .ok (.invokevirtual 25, 3) := by decide +kernel
theorem dL_law_140 : decode cL_law 140 = .ok (.if_icmp .eq 185, 3) := by decide +kernel
theorem dL_law_143 : decode cL_law 143 = .ok (.iconst 0, 1) := by decide +kernel
theorem dL_law_144 : decode cL_law 144 = .ok (.ireturn, 1) := by decide +kernel
theorem dL_law_145 : decode cL_law 145 = .ok (.aload_n 1, 1) := by decide +kernel
theorem dL_law_146 : decode cL_law 146 = .ok (.invokevirtual 26, 3) := by decide +kernel
theorem dL_law_149 : decode cL_law 149 = .ok (.aload_n 2, 1) := by decide +kernel
theorem dL_law_150 : decode cL_law 150 = .ok (.invokevirtual 29, 3) := by decide +kernel
theorem dL_law_153 : decode cL_law 153 = .ok (.goto 172, 3) := by decide +kernel
theorem dL_law_156 : decode cL_law 156 = .ok (.aload_n 1, 1) := by decide +kernel
theorem dL_law_157 : decode cL_law 157 = .ok (.aload_n 0, 1) := by decide +kernel
theorem dL_law_158 : decode cL_law 158 = .ok (.iload_n 3, 1) := by decide +kernel
theorem dL_law_159 : decode cL_law 159 = .ok (.iconst 1, 1) := by decide +kernel
theorem dL_law_160 : decode cL_law 160 = .ok (.iadd, 1) := by decide +kernel
theorem dL_law_161 : decode cL_law 161 = .ok (.iaload, 1) := by decide +kernel
theorem dL_law_162 : decode cL_law 162 = .ok (.aload_n 0, 1) := by decide +kernel
theorem dL_law_163 : decode cL_law 163 = .ok (.iload_n 3, 1) := by decide +kernel
theorem dL_law_164 : decode cL_law 164 = .ok (.iconst 2, 1) := by decide +kernel
theorem dL_law_165 : decode cL_law 165 = .ok (.iadd, 1) := by decide +kernel
theorem dL_law_166 : decode cL_law 166 = .ok (.iaload, 1) := by decide +kernel
theorem dL_law_167 : decode cL_law 167 = .ok (.invokevirtual 30, 3) := by decide +kernel
theorem dL_law_170 : decode cL_law 170 = .ok (.aload_n 2, 1) := by decide +kernel
theorem dL_law_171 : decode cL_law 171 = .ok (.aload_n 0, 1) := by decide +kernel
theorem dL_law_172 : decode cL_law 172 = .ok (.iload_n 3, 1) := by decide +kernel
theorem dL_law_173 : decode cL_law 173 = .ok (.iconst 1, 1) := by decide +kernel
theorem dL_law_174 : decode cL_law 174 = .ok (.iadd, 1) := by decide +kernel
theorem dL_law_175 : decode cL_law 175 = .ok (.iaload, 1) := by decide +kernel
theorem dL_law_176 : decode cL_law 176 = .ok (.aload_n 0, 1) := by decide +kernel
theorem dL_law_177 : decode cL_law 177 = .ok (.iload_n 3, 1) := by decide +kernel
theorem dL_law_178 : decode cL_law 178 = .ok (.iconst 2, 1) := by decide +kernel
theorem dL_law_179 : decode cL_law 179 = .ok (.iadd, 1) := by decide +kernel
theorem dL_law_180 : decode cL_law 180 = .ok (.iaload, 1) := by decide +kernel
theorem dL_law_181 : decode cL_law 181 = .ok (.invokevirtual 34, 3) := by decide +kernel
theorem dL_law_184 : decode cL_law 184 = .ok (.goto 141, 3) := by decide +kernel
theorem dL_law_187 : decode cL_law 187 = .ok (.aload_n 1, 1) := by decide +kernel
theorem dL_law_188 : decode cL_law 188 = .ok (.invokevirtual 35, 3) := by decide +kernel
theorem dL_law_191 : decode cL_law 191 = .ok (.aload_n 2, 1) := by decide +kernel
theorem dL_law_192 : decode cL_law 192 = .ok (.invokevirtual 39, 3) := by decide +kernel
theorem dL_law_195 : decode cL_law 195 = .ok (.if_icmp .eq 130, 3) := by decide +kernel
theorem dL_law_198 : decode cL_law 198 = .ok (.iconst 0, 1) := by decide +kernel
theorem dL_law_199 : decode cL_law 199 = .ok (.ireturn, 1) := by decide +kernel
theorem dL_law_200 : decode cL_law 200 = .ok (.aload_n 1, 1) := by decide +kernel
theorem dL_law_201 : decode cL_law 201 = .ok (.aload_n 0, 1) := by decide +kernel
theorem dL_law_202 : decode cL_law 202 = .ok (.iload_n 3, 1) := by decide +kernel
theorem dL_law_203 : decode cL_law 203 = .ok (.iconst 1, 1) := by decide +kernel
theorem dL_law_204 : decode cL_law 204 = .ok (.iadd, 1) := by decide +kernel
theorem dL_law_205 : decode cL_law 205 = .ok (.iaload, 1) := by decide +kernel
theorem dL_law_206 : decode cL_law 206 = .ok (.aload_n 0, 1) := by decide +kernel
theorem dL_law_207 : decode cL_law 207 = .ok (.iload_n 3, 1) := by decide +kernel
theorem dL_law_208 : decode cL_law 208 = .ok (.iconst 2, 1) := by decide +kernel
theorem dL_law_209 : decode cL_law 209 = .ok (.iadd, 1) := by decide +kernel
theorem dL_law_210 : decode cL_law 210 = .ok (.iaload, 1) := by decide +kernel
theorem dL_law_211 : decode cL_law 211 = .ok (.invokevirtual 40, 3) := by decide +kernel
theorem dL_law_214 : decode cL_law 214 = .ok (.aload_n 2, 1) := by decide +kernel
theorem dL_law_215 : decode cL_law 215 = .ok (.aload_n 0, 1) := by decide +kernel
theorem dL_law_216 : decode cL_law 216 = .ok (.iload_n 3, 1) := by decide +kernel
theorem dL_law_217 : decode cL_law 217 = .ok (.iconst 1, 1) := by decide +kernel
theorem dL_law_218 : decode cL_law 218 = .ok (.iadd, 1) := by decide +kernel
theorem dL_law_219 : decode cL_law 219 = .ok (.iaload, 1) := by decide +kernel
theorem dL_law_220 : decode cL_law 220 = .ok (.aload_n 0, 1) := by decide +kernel
theorem dL_law_221 : decode cL_law 221 = .ok (.iload_n 3, 1) := by decide +kernel
theorem dL_law_222 : decode cL_law 222 = .ok (.iconst 2, 1) := by decide +kernel
theorem dL_law_223 : decode cL_law 223 = .ok (.iadd, 1) := by decide +kernel
theorem dL_law_224 : decode cL_law 224 = .ok (.iaload, 1) := by decide +kernel
theorem dL_law_225 : decode cL_law 225 = .ok (.invokevirtual 44, 3) := by decide +kernel
theorem dL_law_228 : decode cL_law 228 = .ok (.if_icmp .eq 97, 3) := by decide +kernel
theorem dL_law_231 : decode cL_law 231 = .ok (.iconst 0, 1) := by decide +kernel
theorem dL_law_232 : decode cL_law 232 = .ok (.ireturn, 1) := by decide +kernel
theorem dL_law_233 : decode cL_law 233 = .ok (.aload_n 1, 1) := by decide +kernel
theorem dL_law_234 : decode cL_law 234 = .ok (.aload_n 0, 1) := by decide +kernel
theorem dL_law_235 : decode cL_law 235 = .ok (.iload_n 3, 1) := by decide +kernel
theorem dL_law_236 : decode cL_law 236 = .ok (.iconst 1, 1) := by decide +kernel
theorem dL_law_237 : decode cL_law 237 = .ok (.iadd, 1) := by decide +kernel
theorem dL_law_238 : decode cL_law 238 = .ok (.iaload, 1) := by decide +kernel
theorem dL_law_239 : decode cL_law 239 = .ok (.invokevirtual 45, 3) := by decide +kernel
theorem dL_law_242 : decode cL_law 242 = .ok (.aload_n 2, 1) := by decide +kernel
theorem dL_law_243 : decode cL_law 243 = .ok (.aload_n 0, 1) := by decide +kernel
theorem dL_law_244 : decode cL_law 244 = .ok (.iload_n 3, 1) := by decide +kernel
theorem dL_law_245 : decode cL_law 245 = .ok (.iconst 1, 1) := by decide +kernel
theorem dL_law_246 : decode cL_law 246 = .ok (.iadd, 1) := by decide +kernel
theorem dL_law_247 : decode cL_law 247 = .ok (.iaload, 1) := by decide +kernel
theorem dL_law_248 : decode cL_law 248 = .ok (.invokevirtual 49, 3) := by decide +kernel
theorem dL_law_251 : decode cL_law 251 = .ok (.if_icmp .eq 74, 3) := by decide +kernel
theorem dL_law_254 : decode cL_law 254 = .ok (.iconst 0, 1) := by decide +kernel
theorem dL_law_255 : decode cL_law 255 = .ok (.ireturn, 1) := by decide +kernel
theorem dL_law_256 : decode cL_law 256 = .ok (.aload_n 1, 1) := by decide +kernel
theorem dL_law_257 : decode cL_law 257 = .ok (.aload_n 0, 1) := by decide +kernel
theorem dL_law_258 : decode cL_law 258 = .ok (.iload_n 3, 1) := by decide +kernel
theorem dL_law_259 : decode cL_law 259 = .ok (.iconst 1, 1) := by decide +kernel
theorem dL_law_260 : decode cL_law 260 = .ok (.iadd, 1) := by decide +kernel
theorem dL_law_261 : decode cL_law 261 = .ok (.iaload, 1) := by decide +kernel
theorem dL_law_262 : decode cL_law 262 = .ok (.invokevirtual 50, 3) := by decide +kernel
theorem dL_law_265 : decode cL_law 265 = .ok (.aload_n 2, 1) := by decide +kernel
theorem dL_law_266 : decode cL_law 266 = .ok (.aload_n 0, 1) := by decide +kernel
theorem dL_law_267 : decode cL_law 267 = .ok (.iload_n 3, 1) := by decide +kernel
theorem dL_law_268 : decode cL_law 268 = .ok (.iconst 1, 1) := by decide +kernel
theorem dL_law_269 : decode cL_law 269 = .ok (.iadd, 1) := by decide +kernel
theorem dL_law_270 : decode cL_law 270 = .ok (.iaload, 1) := by decide +kernel
theorem dL_law_271 : decode cL_law 271 = .ok (.invokevirtual 53, 3) := by decide +kernel
theorem dL_law_274 : decode cL_law 274 = .ok (.if_icmp .eq 51, 3) := by decide +kernel
theorem dL_law_277 : decode cL_law 277 = .ok (.iconst 0, 1) := by decide +kernel
theorem dL_law_278 : decode cL_law 278 = .ok (.ireturn, 1) := by decide +kernel
theorem dL_law_279 : decode cL_law 279 = .ok (.aload_n 1, 1) := by decide +kernel
theorem dL_law_280 : decode cL_law 280 = .ok (.aload_n 0, 1) := by decide +kernel
theorem dL_law_281 : decode cL_law 281 = .ok (.iload_n 3, 1) := by decide +kernel
theorem dL_law_282 : decode cL_law 282 = .ok (.iconst 1, 1) := by decide +kernel
theorem dL_law_283 : decode cL_law 283 = .ok (.iadd, 1) := by decide +kernel
theorem dL_law_284 : decode cL_law 284 = .ok (.iaload, 1) := by decide +kernel
theorem dL_law_285 : decode cL_law 285 = .ok (.invokevirtual 54, 3) := by decide +kernel
theorem dL_law_288 : decode cL_law 288 = .ok (.aload_n 2, 1) := by decide +kernel
theorem dL_law_289 : decode cL_law 289 = .ok (.aload_n 0, 1) := by decide +kernel
theorem dL_law_290 : decode cL_law 290 = .ok (.iload_n 3, 1) := by decide +kernel
theorem dL_law_291 : decode cL_law 291 = .ok (.iconst 1, 1) := by decide +kernel
theorem dL_law_292 : decode cL_law 292 = .ok (.iadd, 1) := by decide +kernel
theorem dL_law_293 : decode cL_law 293 = .ok (.iaload, 1) := by decide +kernel
theorem dL_law_294 : decode cL_law 294 = .ok (.invokevirtual 57, 3) := by decide +kernel
theorem dL_law_297 : decode cL_law 297 = .ok (.if_icmp .eq 28, 3) := by decide +kernel
theorem dL_law_300 : decode cL_law 300 = .ok (.iconst 0, 1) := by decide +kernel
theorem dL_law_301 : decode cL_law 301 = .ok (.ireturn, 1) := by decide +kernel
theorem dL_law_302 : decode cL_law 302 = .ok (.aload_n 1, 1) := by decide +kernel
theorem dL_law_303 : decode cL_law 303 = .ok (.aload_n 0, 1) := by decide +kernel
theorem dL_law_304 : decode cL_law 304 = .ok (.iload_n 3, 1) := by decide +kernel
theorem dL_law_305 : decode cL_law 305 = .ok (.iconst 1, 1) := by decide +kernel
theorem dL_law_306 : decode cL_law 306 = .ok (.iadd, 1) := by decide +kernel
theorem dL_law_307 : decode cL_law 307 = .ok (.iaload, 1) := by decide +kernel
theorem dL_law_308 : decode cL_law 308 = .ok (.invokevirtual 58, 3) := by decide +kernel
theorem dL_law_311 : decode cL_law 311 = .ok (.aload_n 2, 1) := by decide +kernel
theorem dL_law_312 : decode cL_law 312 = .ok (.aload_n 0, 1) := by decide +kernel
theorem dL_law_313 : decode cL_law 313 = .ok (.iload_n 3, 1) := by decide +kernel
theorem dL_law_314 : decode cL_law 314 = .ok (.iconst 1, 1) := by decide +kernel
theorem dL_law_315 : decode cL_law 315 = .ok (.iadd, 1) := by decide +kernel
theorem dL_law_316 : decode cL_law 316 = .ok (.iaload, 1) := by decide +kernel
theorem dL_law_317 : decode cL_law 317 = .ok (.invokevirtual 61, 3) := by decide +kernel
theorem dL_law_320 : decode cL_law 320 = .ok (.if_icmp .eq 5, 3) := by decide +kernel
theorem dL_law_323 : decode cL_law 323 = .ok (.iconst 0, 1) := by decide +kernel
theorem dL_law_324 : decode cL_law 324 = .ok (.ireturn, 1) := by decide +kernel
theorem dL_law_325 : decode cL_law 325 = .ok (.iinc 3 5, 3) := by decide +kernel
theorem dL_law_328 : decode cL_law 328 = .ok (.goto (-300), 3) := by decide +kernel
theorem dL_law_331 : decode cL_law 331 = .ok (.iconst 1, 1) := by decide +kernel
theorem dL_law_332 : decode cL_law 332 = .ok (.ireturn, 1) := by decide +kernel
end
section
/-! ===== Int32 by its bits: bt x i ===== -/
def bt (x : Int32) (i : Nat) : Bool := x.toBitVec.getLsbD i
theorem b_ext {x y : Int32} (h : ∀ i, i < 32 → bt x i = bt y i) : x = y := Int32.toBitVec_inj.mp (BitVec.eq_of_getLsbD_eq (fun i hi => h i hi))
theorem b_or (x y : Int32) (i : Nat) : bt (x ||| y) i = (bt x i || bt y i) := by unfold bt; rw [Int32.toBitVec_or, BitVec.getLsbD_or]
theorem b_and (x y : Int32) (i : Nat) : bt (x &&& y) i = (bt x i && bt y i) := by unfold bt; rw [Int32.toBitVec_and, BitVec.getLsbD_and]
theorem b_xor (x y : Int32) (i : Nat) : bt (x ^^^ y) i = (bt x i ^^ bt y i) := by unfold bt; rw [Int32.toBitVec_xor, BitVec.getLsbD_xor]
theorem b_big {x : Int32} {i : Nat} (h : 32 ≤ i) : bt x i = false := BitVec.getLsbD_of_ge _ _ h
theorem b_255 (i : Nat) : bt 255 i = decide (i < 8) := by
  rcases Nat.lt_or_ge i 32 with h | h
  · exact (by decide +kernel : ∀ i, i < 32 → bt 255 i = decide (i < 8)) i h
  · rw [b_big h, decide_eq_false (by omega)]
theorem b_65535 (i : Nat) : bt 65535 i = decide (i < 16) := by
  rcases Nat.lt_or_ge i 32 with h | h
  · exact (by decide +kernel : ∀ i, i < 32 → bt 65535 i = decide (i < 16)) i h
  · rw [b_big h, decide_eq_false (by omega)]
theorem b_m1 : ∀ i, i < 32 → bt (-1) i = true := by decide +kernel
theorem b_0 (i : Nat) : bt 0 i = false := BitVec.getLsbD_zero
theorem s_l : ∀ n, n < 32 → ((nI n &&& 31).toBitVec.smod 32).toNat = n := by decide +kernel
theorem s_u : ∀ n, n < 32 → (((nI n).toUInt32 &&& Int32.toUInt32 31).toBitVec % 32).toNat = n := by decide +kernel
theorem b_shl (n : Nat) (hn : n < 32) (x : Int32) {i : Nat} (hi : i < 32) : bt (x <<< (nI n &&& 31)) i = (decide (n ≤ i) && bt x (i - n)) := by
  unfold bt
  rw [Int32.toBitVec_shiftLeft]
  show (x.toBitVec <<< ((nI n &&& 31).toBitVec.smod 32).toNat).getLsbD i = _
  rw [s_l n hn, BitVec.getLsbD_shiftLeft]
  rcases Nat.lt_or_ge i n with h | h
  · simp [h, Nat.not_le.mpr h]
  · simp [hi, h, Nat.not_lt.mpr h]
theorem b_ushr (n : Nat) (hn : n < 32) (x : Int32) (i : Nat) : bt ((x.toUInt32 >>> ((nI n).toUInt32 &&& Int32.toUInt32 31)).toInt32) i = bt x (n + i) := by
  show (x.toUInt32 >>> ((nI n).toUInt32 &&& Int32.toUInt32 31)).toBitVec.getLsbD i = x.toUInt32.toBitVec.getLsbD (n + i)
  rw [UInt32.toBitVec_shiftRight]
  show (x.toUInt32.toBitVec >>> (((nI n).toUInt32 &&& Int32.toUInt32 31).toBitVec % 32).toNat).getLsbD i = _
  rw [s_u n hn, BitVec.getLsbD_ushiftRight]
theorem b_sshr (n : Nat) (hn : n < 32) (x : Int32) {i : Nat} (hi : i < 32) : bt (x >>> (nI n &&& 31)) i = if n + i < 32 then bt x (n + i) else bt x 31 := by
  unfold bt
  rw [Int32.toBitVec_shiftRight]
  show (x.toBitVec.sshiftRight ((nI n &&& 31).toBitVec.smod 32).toNat).getLsbD i = _
  rw [s_l n hn, BitVec.getLsbD_sshiftRight, BitVec.msb_eq_getLsbD_last]
  simp [hi]
theorem b_shl8 (x : Int32) {i : Nat} (hi : i < 32) : bt (x <<< ((8 : Int32) &&& 31)) i = (decide (8 ≤ i) && bt x (i - 8)) := b_shl 8 (by omega) x hi
theorem b_shl16 (x : Int32) {i : Nat} (hi : i < 32) : bt (x <<< ((16 : Int32) &&& 31)) i = (decide (16 ≤ i) && bt x (i - 16)) := b_shl 16 (by omega) x hi
theorem b_shl24 (x : Int32) {i : Nat} (hi : i < 32) : bt (x <<< ((24 : Int32) &&& 31)) i = (decide (24 ≤ i) && bt x (i - 24)) := b_shl 24 (by omega) x hi
theorem b_sshr8 (x : Int32) {i : Nat} (hi : i < 32) : bt (x >>> ((8 : Int32) &&& 31)) i = if 8 + i < 32 then bt x (8 + i) else bt x 31 := b_sshr 8 (by omega) x hi
/-! ===== own: single bits, masks, places ===== -/
theorem z_b1 : ∀ k, k < 32 → bt 1 k = decide (k = 0) := by decide +kernel
/-- the test (m >>> t) & 1 -/
theorem z_test (m : Int32) (t : Nat) (ht : t < 32) : ((m.toUInt32 >>> ((nI t).toUInt32 &&& Int32.toUInt32 31)).toInt32 &&& 1) = 0 ↔ bt m t = false := by
  constructor
  · intro h
    have h1 := b_and ((m.toUInt32 >>> ((nI t).toUInt32 &&& Int32.toUInt32 31)).toInt32) 1 0
    rw [h, b_0, b_ushr t ht, z_b1 0 (by omega)] at h1
    simpa using h1.symm
  · intro h
    apply b_ext
    intro i hi
    rw [b_and, b_ushr t ht, b_0, z_b1 i hi]
    rcases Nat.eq_zero_or_pos i with rfl | hp
    · simp [h]
    · simp [Nat.pos_iff_ne_zero.mp hp]
theorem z_one (t : Nat) (ht : t < 32) {i : Nat} (hi : i < 32) : bt ((1 : Int32) <<< (nI t &&& 31)) i = decide (i = t) := by
  rw [b_shl t ht 1 hi, z_b1 (i - t) (by omega)]
  rcases Nat.lt_trichotomy i t with h | h | h
  · simp [Nat.not_le.mpr h, Nat.ne_of_lt h]
  · simp [h]
  · have h1 : ¬ i - t = 0 := by omega
    have h2 : ¬ i = t := by omega
    simp [h1, h2]
theorem z_all : ∀ T, T < 9 → ∀ i, i < 32 → bt (((1 : Int32) <<< (nI T &&& 31)) - 1) i = decide (i < T) := by decide +kernel
theorem z_not (x : Int32) {i : Nat} (hi : i < 32) : bt (x ^^^ (-1)) i = !(bt x i) := by
  rw [b_xor, b_m1 i hi]
  cases bt x i <;> rfl
theorem z_ne {x : Int32} (h : ¬ x = 0) : ∃ i, i < 32 ∧ bt x i = true := by
  refine Classical.byContradiction fun hn => h (b_ext fun i hi => ?_)
  rw [b_0]
  cases hb : bt x i
  · rfl
  · exact absurd ⟨i, hi, hb⟩ hn
theorem z_ne' {x : Int32} {i : Nat} (h : bt x i = true) : ¬ x = 0 := fun e => by rw [e, b_0] at h; cases h
def m4 (x : Int32) : Nat := x.toBitVec.toNat % 4
def m16 (x : Int32) : Nat := x.toBitVec.toNat % 16
def m32 (x : Int32) : Nat := x.toBitVec.toNat % 32
theorem m4_lt (x : Int32) : m4 x < 4 := Nat.mod_lt _ (by omega)
theorem m16_lt (x : Int32) : m16 x < 16 := Nat.mod_lt _ (by omega)
theorem m32_lt (x : Int32) : m32 x < 32 := Nat.mod_lt _ (by omega)
theorem e4 (x : Int32) : x &&& 3 = nI (m4 x) := pk_and x 2 (by decide)
theorem e16 (x : Int32) : x &&& 15 = nI (m16 x) := pk_and x 4 (by decide)
theorem e32 (x : Int32) : x &&& 31 = nI (m32 x) := pk_and x 5 (by decide)
theorem i4 (t : Nat) (x : Int32) : 4 * nI t + (x &&& 3) = nI (4 * t + m4 x) := by
  rw [e4]
  show nI 4 * nI t + nI (m4 x) = _
  rw [pk_mul, nI_add]
theorem i4r (t r : Nat) : 4 * nI t + nI r = nI (4 * t + r) := by
  show nI 4 * nI t + nI r = _
  rw [pk_mul, nI_add]
end
section
/-! own rows: the worlds of the two classes; arrays at a place that is a Nat; calls that take the whole world along -/
abbrev vwCl : List vw_C := [(RX1, TX1, 19), (RX2, TX2, 12)]
abbrev w1 (a : Nat → Nat) (cI cJ : ClassId) (th ln : Int32) (op fa fb fc inp out rg lo so st : Nat → Int32) (ps : Nat → Int64) (mt : Nat → Int32) (al dp : Int32) (pl pe pm : Nat → Int32) : va_W :=
  [(a 0, .inr (0, [.int th, .int ln, .ref (a 1), .ref (a 2), .ref (a 3), .ref (a 4), .ref (a 5), .ref (a 6), .ref (a 7), .ref (a 8), .ref (a 9), .ref (a 10), .ref (a 11), .ref (a 12), .int al, .int dp, .ref (a 13), .ref (a 14), .ref (a 15)])),
   (a 1, .inl (cI, 32, .inl op)), (a 2, .inl (cI, 32, .inl fa)), (a 3, .inl (cI, 32, .inl fb)), (a 4, .inl (cI, 32, .inl fc)), (a 5, .inl (cI, 16, .inl inp)), (a 6, .inl (cI, 16, .inl out)), (a 7, .inl (cI, 32, .inl rg)),
   (a 8, .inl (cI, 8, .inl lo)), (a 9, .inl (cI, 8, .inl so)), (a 10, .inl (cI, 8, .inl st)), (a 11, .inl (cJ, 33, .inr (.inl ps))), (a 12, .inl (cI, 33, .inl mt)), (a 13, .inl (cI, 32, .inl pl)), (a 14, .inl (cI, 32, .inl pe)), (a 15, .inl (cI, 32, .inl pm))]
abbrev w2 (a : Nat → Nat) (cI : ClassId) (th ln : Int32) (op fa fb fc inp out rg lo so st : Nat → Int32) : va_W :=
  [(a 0, .inr (1, [.int th, .int ln, .ref (a 1), .ref (a 2), .ref (a 3), .ref (a 4), .ref (a 5), .ref (a 6), .ref (a 7), .ref (a 8), .ref (a 9), .ref (a 10)])),
   (a 1, .inl (cI, 32, .inl op)), (a 2, .inl (cI, 32, .inl fa)), (a 3, .inl (cI, 32, .inl fb)), (a 4, .inl (cI, 32, .inl fc)), (a 5, .inl (cI, 16, .inl inp)), (a 6, .inl (cI, 16, .inl out)), (a 7, .inl (cI, 32, .inl rg)),
   (a 8, .inl (cI, 8, .inl lo)), (a 9, .inl (cI, 8, .inl so)), (a 10, .inl (cI, 8, .inl st))]
abbrev tyL (cI cJ : ClassId) : List (ClassId × FieldType) := [(cI, .int), (cJ, .long)]
abbrev prW (dC : Nat → ClassId) (dI : Nat → Nat → Nat) (tys : List (ClassId × FieldType)) (sz : Nat) (ws : va_W) (U : State) : Prop := U.heap.size = sz ∧ va_P (dC, dI) vwCl ws U.heap ∧ va_K (dC, dI) vwCl tys U ∧ va_D (fun _ => True) ws
abbrev poW (dC : Nat → ClassId) (dI : Nat → Nat → Nat) (tys : List (ClassId × FieldType)) (A : Nat → Prop) (ws : va_W) (t : State) : Prop := va_P (dC, dI) vwCl ws t.heap ∧ va_K (dC, dI) vwCl tys t ∧ va_D A ws
/-- two array classes of one component are one class -/
theorem z_cls {D : va_G} {tys : List (ClassId × FieldType)} {U : State} (hK : va_K D vwCl tys U) {i j : Nat} {c1 c2 : ClassId} (h1 : tys[i]? = some (c1, .int)) (h2 : tys[j]? = some (c2, .int)) : c1 = c2 := by
  have e1 : U.vm.findClass ("[" ++ FieldType.int.toString) = some c1 := (hK.2 i _ h1).2
  have e2 : U.vm.findClass ("[" ++ FieldType.int.toString) = some c2 := (hK.2 j _ h2).2
  exact Option.some.inj (e1.symm.trans e2)
section OwnRows
variable {p : Program} {l : Launch} {e : Env} {R : Room} {s : State} {m : MethodId} {args : Array Value} {below : List Frame} {meth : Method} {c : Code} {H : Heap} {locs : List Loc} {cells slots : Nat} {Q : State → Prop}
variable {cc : ByteArray} {pc : Nat} {ls : Array Slot} {rest : List Value} {D : va_G} {cl : List vw_C} {A : Nat → Prop} {a : Nat} {tys : List (ClassId × FieldType)} {ws : va_W} {H0 : Heap}
theorem n_iald (hexec : p.tables.exec = Jvm.exec) (hb : c.code = cc) (hK : va_K D cl tys s) (hP : va_P D cl ws H) (q0 t0 : Nat) {cA : ClassId} {n : Nat} {f : Nat → Int32} (ha : ws[q0]? = some (a, .inl (cA, n, .inl f))) (ht : tys[t0]? = some (cA, .int)) {i : Int32} (k : Nat) (hi : i = nI k) (hk : k < n) (hn : n < 2 ^ 31) (hdg : decode cc pc = .ok (.iaload, 1))
    (kk : W p l e R s m args below meth c H locs cells slots Q (F0 m (pc + 1) ls (.int (f k) :: rest))) : W p l e R s m args below meth c H locs cells slots Q (F0 m pc ls (.int i :: .ref a :: rest)) := by
  subst hi
  refine va_iald hexec hb hK hP q0 t0 ha ht (vp_in_nI hk hn) hdg ?_
  rw [nI_clamp (by omega)]
  exact kk
theorem n_lald (hexec : p.tables.exec = Jvm.exec) (hb : c.code = cc) (hK : va_K D cl tys s) (hP : va_P D cl ws H) (q0 t0 : Nat) {cA : ClassId} {n : Nat} {f : Nat → Int64} (ha : ws[q0]? = some (a, .inl (cA, n, .inr (.inl f)))) (ht : tys[t0]? = some (cA, .long)) {i : Int32} (k : Nat) (hi : i = nI k) (hk : k < n) (hn : n < 2 ^ 31) (hdg : decode cc pc = .ok (.laload, 1))
    (kk : W p l e R s m args below meth c H locs cells slots Q (F0 m (pc + 1) ls (.long (f k) :: rest))) : W p l e R s m args below meth c H locs cells slots Q (F0 m pc ls (.int i :: .ref a :: rest)) := by
  subst hi
  refine va_lald hexec hb hK hP q0 t0 ha ht (vp_in_nI hk hn) hdg ?_
  rw [nI_clamp (by omega)]
  exact kk
theorem n_iast (hexec : p.tables.exec = Jvm.exec) (hb : c.code = cc) (hK : va_K D cl tys s) (hP : va_P D cl ws H) (hD : va_D A ws) (hS : va_S A H0 H locs) (q0 t0 : Nat) {cA : ClassId} {n : Nat} {f : Nat → Int32} (ha : ws[q0]? = some (a, .inl (cA, n, .inl f))) (ht : tys[t0]? = some (cA, .int)) {i : Int32} {x : Int32} (k : Nat) (hi : i = nI k) (hk : k < n) (hn : n < 2 ^ 31) (hdg : decode cc pc = .ok (.iastore, 1))
    (kk : ∀ (H1 : Heap) (locs1 : List Loc), va_P D cl (ws.set q0 (a, .inl (cA, n, .inl (upd f k x)))) H1 → va_D A (ws.set q0 (a, .inl (cA, n, .inl (upd f k x)))) → va_S A H0 H1 locs1 → W p l e R s m args below meth c H1 locs1 cells slots Q (F0 m (pc + 1) ls rest)) : W p l e R s m args below meth c H locs cells slots Q (F0 m pc ls (.int x :: .int i :: .ref a :: rest)) := by
  subst hi
  refine va_iast hexec hb hK hP hD hS q0 t0 ha ht (vp_in_nI hk hn) hdg ?_
  rw [nI_clamp (by omega)]
  exact kk
theorem n_last (hexec : p.tables.exec = Jvm.exec) (hb : c.code = cc) (hK : va_K D cl tys s) (hP : va_P D cl ws H) (hD : va_D A ws) (hS : va_S A H0 H locs) (q0 t0 : Nat) {cA : ClassId} {n : Nat} {f : Nat → Int64} (ha : ws[q0]? = some (a, .inl (cA, n, .inr (.inl f)))) (ht : tys[t0]? = some (cA, .long)) {i : Int32} {x : Int64} (k : Nat) (hi : i = nI k) (hk : k < n) (hn : n < 2 ^ 31) (hdg : decode cc pc = .ok (.lastore, 1))
    (kk : ∀ (H1 : Heap) (locs1 : List Loc), va_P D cl (ws.set q0 (a, .inl (cA, n, .inr (.inl (vp_updL f k x))))) H1 → va_D A (ws.set q0 (a, .inl (cA, n, .inr (.inl (vp_updL f k x))))) → va_S A H0 H1 locs1 → W p l e R s m args below meth c H1 locs1 cells slots Q (F0 m (pc + 1) ls rest)) : W p l e R s m args below meth c H locs cells slots Q (F0 m pc ls (.long x :: .int i :: .ref a :: rest)) := by
  subst hi
  refine va_last hexec hb hK hP hD hS q0 t0 ha ht (vp_in_nI hk hn) hdg ?_
  rw [nI_clamp (by omega)]
  exact kk
/-- the value on top gets another form -/
theorem n_topi {x y : Int32} (h : x = y) (kk : W p l e R s m args below meth c H locs cells slots Q (F0 m pc ls (.int y :: rest))) : W p l e R s m args below meth c H locs cells slots Q (F0 m pc ls (.int x :: rest)) := by
  subst h
  exact kk
theorem n_topl {x y : Int64} (h : x = y) (kk : W p l e R s m args below meth c H locs cells slots Q (F0 m pc ls (.long y :: rest))) : W p l e R s m args below meth c H locs cells slots Q (F0 m pc ls (.long x :: rest)) := by
  subst h
  exact kk
end OwnRows
section OwnCalls
variable {p : Program} {l : Launch} {e : Env} {R : Room} {s : State} {m : MethodId} {args : Array Value} {below : List Frame} {meth : Method} {c : Code} {H : Heap} {locs : List Loc} {cells slots : Nat} {Q : State → Prop}
variable {cc : ByteArray} {pc : Nat} {ls : Array Slot} {rest st0 : List Value} {dC : Nat → ClassId} {dI : Nat → Nat → Nat} {A : Nat → Prop} {tys : List (ClassId × FieldType)} {ws : va_W} {H0 : Heap}
variable {y : MethodName} {bytes : ByteArray} {maxL nL n index : Nat} {ret : Option FieldType} {rm : Room} {own C : String} {b : Nat} {As : List Value} {fs : List Value} {qq : vw_C}
theorem n_callv {S : Type} {post : S → Prop} {wn : S → va_W} (SF : CallFix p m c cc nL s args lw_all own)
    (hM : Met l y (ws_ y bytes maxL ret) rm (va_Pc (.ref b :: As) (prW dC dI tys H.size ws)) (va_Qv post (fun u => poW dC dI tys (va_A ws H.size) (wn u)) (va_A ws H.size)) 0 0 (va_A ws H.size))
    (cw : CallW R s args own C index y bytes maxL ret (ws_ y bytes maxL ret) rm 0 0 n)
    (hK : va_K (dC, dI) vwCl tys s) (hP : va_P (dC, dI) vwCl ws H) (hD : va_D A ws) (hS : va_S A H0 H locs) (hA : ∀ q, H0.size ≤ q → A q)
    (q0 ci : Nat) (hc : vwCl[ci]? = some qq) (hC : qq.1 = C) (he : ws[q0]? = some (b, .inr (ci, fs)))
    (hn : As.length = n) (hsize : ls.size = nL) (hst : st0 = As.reverse ++ .ref b :: rest) (hW : (rest.map fun v => v.category).sum ≤ 8) (hdg : decode cc pc = .ok (.invokevirtual index, 3)) (hf : cells ≤ R.cells ∧ slots ≤ R.slots)
    (kk : ∀ (u : S) (H1 : Heap) (locs1 : List Loc), post u → va_P (dC, dI) vwCl (wn u) H1 → va_D A (wn u) → va_S A H0 H1 locs1 → W p l e R s m args below meth c H1 locs1 cells slots Q (F0 m (pc + 3) ls rest)) :
    W p l e R s m args below meth c H locs cells slots Q (F0 m pc ls st0) := by
  have hFc : ∀ q, va_A ws H.size q → A q := fun q h => by
    rcases h with ⟨k, e, h⟩ | h
    · exact hD.2 k (q, e) h
    · exact hA q (Nat.le_trans hS.1 h)
  refine va_callv (va_runV SF hM cw ⟨fun a U g mk q => ?_, ?_, fun U hU hW => ⟨rfl, by rw [hU], by rw [hU]; exact hP, va_K.moved hW.alike hK, hD.weaken (fun _ _ _ _ => trivial)⟩⟩ rfl hn hsize hst (lv_room hW) hdg hf) hS (fun q _ h => hFc q h) hFc (fun u t H1 locs1 ht hvm hw hB hz hk hS1 => ?_)
  · obtain ⟨q0, q1, qP, qK, qD⟩ := q
    exact ⟨q0, q1, qP, va_K.moved (u := U) (U := U.calling g mk a) (Vm.Alike.refl U.vm) qK, qD⟩
  · subst hC
    exact va_recv hK hP hc he
  · obtain ⟨hP1, hK1, hD1⟩ := hB
    rw [ht] at hP1
    exact kk u H1 locs1 hw hP1 (hD1.weaken (fun k q _ h => hFc q.1 h)) hS1
theorem n_calli {S : Type} {post : Int32 → S → Prop} {wn : S → va_W} (SF : CallFix p m c cc nL s args lw_all own)
    (hM : Met l y (ws_ y bytes maxL ret) rm (va_Pc (.ref b :: As) (prW dC dI tys H.size ws)) (va_Qi post (fun u => poW dC dI tys (va_A ws H.size) (wn u)) (va_A ws H.size)) 0 0 (va_A ws H.size))
    (cw : CallW R s args own C index y bytes maxL ret (ws_ y bytes maxL ret) rm 0 0 n)
    (hK : va_K (dC, dI) vwCl tys s) (hP : va_P (dC, dI) vwCl ws H) (hD : va_D A ws) (hS : va_S A H0 H locs) (hA : ∀ q, H0.size ≤ q → A q)
    (q0 ci : Nat) (hc : vwCl[ci]? = some qq) (hC : qq.1 = C) (he : ws[q0]? = some (b, .inr (ci, fs)))
    (hn : As.length = n) (hsize : ls.size = nL) (hst : st0 = As.reverse ++ .ref b :: rest) (hW : (rest.map fun v => v.category).sum ≤ 8) (hdg : decode cc pc = .ok (.invokevirtual index, 3)) (hf : cells ≤ R.cells ∧ slots ≤ R.slots)
    (kk : ∀ (r : Int32) (u : S) (H1 : Heap) (locs1 : List Loc), post r u → va_P (dC, dI) vwCl (wn u) H1 → va_D A (wn u) → va_S A H0 H1 locs1 → W p l e R s m args below meth c H1 locs1 cells slots Q (F0 m (pc + 3) ls (.int r :: rest))) :
    W p l e R s m args below meth c H locs cells slots Q (F0 m pc ls st0) := by
  have hFc : ∀ q, va_A ws H.size q → A q := fun q h => by
    rcases h with ⟨k, e, h⟩ | h
    · exact hD.2 k (q, e) h
    · exact hA q (Nat.le_trans hS.1 h)
  refine va_calli (va_runV SF hM cw ⟨fun a U g mk q => ?_, ?_, fun U hU hW => ⟨rfl, by rw [hU], by rw [hU]; exact hP, va_K.moved hW.alike hK, hD.weaken (fun _ _ _ _ => trivial)⟩⟩ rfl hn hsize hst (lv_room hW) hdg hf) hS (fun q _ h => hFc q h) hFc (fun r u t H1 locs1 ht hvm hw hB hz hk hS1 => ?_)
  · obtain ⟨q0, q1, qP, qK, qD⟩ := q
    exact ⟨q0, q1, qP, va_K.moved (u := U) (U := U.calling g mk a) (Vm.Alike.refl U.vm) qK, qD⟩
  · subst hC
    exact va_recv hK hP hc he
  · obtain ⟨hP1, hK1, hD1⟩ := hB
    rw [ht] at hP1
    exact kk r u H1 locs1 hw hP1 (hD1.weaken (fun k q _ h => hFc q.1 h)) hS1
theorem n_calll {S : Type} {post : Int64 → S → Prop} {wn : S → va_W} (SF : CallFix p m c cc nL s args lw_all own)
    (hM : Met l y (ws_ y bytes maxL ret) rm (va_Pc (.ref b :: As) (prW dC dI tys H.size ws)) (va_Ql post (fun u => poW dC dI tys (va_A ws H.size) (wn u)) (va_A ws H.size)) 0 0 (va_A ws H.size))
    (cw : CallW R s args own C index y bytes maxL ret (ws_ y bytes maxL ret) rm 0 0 n)
    (hK : va_K (dC, dI) vwCl tys s) (hP : va_P (dC, dI) vwCl ws H) (hD : va_D A ws) (hS : va_S A H0 H locs) (hA : ∀ q, H0.size ≤ q → A q)
    (q0 ci : Nat) (hc : vwCl[ci]? = some qq) (hC : qq.1 = C) (he : ws[q0]? = some (b, .inr (ci, fs)))
    (hn : As.length = n) (hsize : ls.size = nL) (hst : st0 = As.reverse ++ .ref b :: rest) (hW : (rest.map fun v => v.category).sum ≤ 8) (hdg : decode cc pc = .ok (.invokevirtual index, 3)) (hf : cells ≤ R.cells ∧ slots ≤ R.slots)
    (kk : ∀ (r : Int64) (u : S) (H1 : Heap) (locs1 : List Loc), post r u → va_P (dC, dI) vwCl (wn u) H1 → va_D A (wn u) → va_S A H0 H1 locs1 → W p l e R s m args below meth c H1 locs1 cells slots Q (F0 m (pc + 3) ls (.long r :: rest))) :
    W p l e R s m args below meth c H locs cells slots Q (F0 m pc ls st0) := by
  have hFc : ∀ q, va_A ws H.size q → A q := fun q h => by
    rcases h with ⟨k, e, h⟩ | h
    · exact hD.2 k (q, e) h
    · exact hA q (Nat.le_trans hS.1 h)
  refine va_calll (va_runV SF hM cw ⟨fun a U g mk q => ?_, ?_, fun U hU hW => ⟨rfl, by rw [hU], by rw [hU]; exact hP, va_K.moved hW.alike hK, hD.weaken (fun _ _ _ _ => trivial)⟩⟩ rfl hn hsize hst (lv_room hW) hdg hf) hS (fun q _ h => hFc q h) hFc (fun r u t H1 locs1 ht hvm hw hB hz hk hS1 => ?_)
  · obtain ⟨q0, q1, qP, qK, qD⟩ := q
    exact ⟨q0, q1, qP, va_K.moved (u := U) (U := U.calling g mk a) (Vm.Alike.refl U.vm) qK, qD⟩
  · subst hC
    exact va_recv hK hP hc he
  · obtain ⟨hP1, hK1, hD1⟩ := hB
    rw [ht] at hP1
    exact kk r u H1 locs1 hw hP1 (hD1.weaken (fun k q _ h => hFc q.1 h)) hS1
/-- a static call that touches no cell -/
theorem n_calls {post : Int32 → Prop} (SF : CallFix p m c cc nL s args lw_all own)
    (hM : Met l y (ws_ y bytes maxL ret) rm (va_Pc As (fun _ => True)) (va_Qi (fun r (_ : Unit) => post r) (fun _ _ => True) (fun _ => False)) 0 0 (fun _ => False))
    (cw : CallB R s args own index y bytes maxL ret (ws_ y bytes maxL ret) rm 0 0 n ∧ (Cond.static y).before args s = true)
    (hP : va_P (dC, dI) vwCl ws H) (hS : va_S A H0 H locs)
    (hn : As.length = n) (hsize : ls.size = nL) (hst : st0 = As.reverse ++ rest) (hW : (rest.map fun v => v.category).sum ≤ 8) (hdg : decode cc pc = .ok (.invokestatic index, 3)) (hf : cells ≤ R.cells ∧ slots ≤ R.slots)
    (kk : ∀ (r : Int32) (H1 : Heap) (locs1 : List Loc), post r → va_P (dC, dI) vwCl ws H1 → va_S A H0 H1 locs1 → W p l e R s m args below meth c H1 locs1 cells slots Q (F0 m (pc + 3) ls (.int r :: rest))) :
    W p l e R s m args below meth c H locs cells slots Q (F0 m pc ls st0) := by
  refine va_calli (va_runS SF hM cw ⟨fun a U g mk q => q, fun U hU hW => ⟨rfl, trivial⟩⟩ rfl hn hsize hst (lv_room hW) hdg hf) hS (fun q _ h => h.elim) (fun q h => h.elim) (fun r u t H1 locs1 ht hvm hw hB hz hk hS1 => ?_)
  exact kk r H1 locs1 hw (hP.kept (fun k q hq => hk q.1 (hP k q hq).lt (fun h => h))) hS1
/-- a method over a world, from its entry -/
theorem n_met {Qc : Array Value → State → Outcome → State → Prop} {mc ms sz : Nat} {av : List Value} {free : Addr → Prop} (hy : plainName y.cls = true) (hlen : (lg_sl av).length ≤ maxL)
    (body : ∀ (p : Program) (e : Env) (s : State) (m : MethodId) (below : List Frame) (meth : Method) (c : Code) (ls : Array Slot), CallFix p m c bytes maxL s av.toArray lw_all y.cls → meth.sig.returnType = ret → meth.locks = false → meth.name = y.name → s.heap.size = sz → va_K (dC, dI) vwCl tys s → va_P (dC, dI) vwCl ws s.heap → va_D (va_A ws s.heap.size) ws → (∀ q : Nat, s.heap.size ≤ q → va_A ws s.heap.size q) → lv_has ls maxL (lv_args 0 av) →
      W p l e rm s m av.toArray below meth c s.heap [] 0 0 (MQ below Qc av.toArray s mc ms free) (F0 m 0 ls [])) :
    Met l y (ws_ y bytes maxL ret) rm (va_Pc av (prW dC dI tys sz ws)) Qc mc ms free := by
  refine Met.ofW (cc := bytes) (maxL := maxL) (ret := ret) hy rfl ?_
  intro p e s m args below meth c s₁ B hml hv
  obtain ⟨rfl, hsz, hP, hK, hD0⟩ := hv
  have hts := atoms_spec (ws := ws_ y bytes maxL ret) B.pre
  have hts : ∀ w ∈ lw_all, w.before _ s = true := fun w h => hts w (List.mem_cons_of_mem _ h)
  have hown : s.vm.findClass y.cls = some m.cls := findClass_of_methodNamed B.named
  have hl := lv_entry av (n := maxL) hlen
  rw [lg_entry_eq]
  exact body p e s m below meth c _ ⟨B.exec, B.bytes, hml, hown, hts⟩ B.returns B.notSynchronized (name_of_methodNamed B.named B.method).1 hsz hK hP (hD0.self) (fun q h => Or.inr h) hl
/-- a static method that touches no cell, from its entry -/
theorem n_mets {Qc : Array Value → State → Outcome → State → Prop} {av : List Value} {free : Addr → Prop} (hy : plainName y.cls = true) (hlen : (lg_sl av).length ≤ maxL)
    (body : ∀ (p : Program) (e : Env) (s : State) (m : MethodId) (below : List Frame) (meth : Method) (c : Code) (ls : Array Slot), CallFix p m c bytes maxL s av.toArray lw_all y.cls → meth.sig.returnType = ret → meth.locks = false → lv_has ls maxL (lv_args 0 av) →
      W p l e rm s m av.toArray below meth c s.heap [] 0 0 (MQ below Qc av.toArray s 0 0 free) (F0 m 0 ls [])) :
    Met l y (ws_ y bytes maxL ret) rm (va_Pc av (fun _ => True)) Qc 0 0 free := by
  refine Met.ofW (cc := bytes) (maxL := maxL) (ret := ret) hy rfl ?_
  intro p e s m args below meth c s₁ B hml hv
  obtain ⟨rfl, -⟩ := hv
  have hts := atoms_spec (ws := ws_ y bytes maxL ret) B.pre
  have hts : ∀ w ∈ lw_all, w.before _ s = true := fun w h => hts w (List.mem_cons_of_mem _ h)
  have hown : s.vm.findClass y.cls = some m.cls := findClass_of_methodNamed B.named
  have hl := lv_entry av (n := maxL) hlen
  rw [lg_entry_eq]
  exact body p e s m below meth c _ ⟨B.exec, B.bytes, hml, hown, hts⟩ B.returns B.notSynchronized hl
end OwnCalls
end
section
/-! the pure semantics: one thread alone; what the loops over threads compute. P = (op, fa, fb, fc, inp, lines) -/
abbrev PG : Type := (Nat → Int32) × (Nat → Int32) × (Nat → Int32) × (Nat → Int32) × (Nat → Int32) × Nat
def kalk (o x y : Int32) : Int32 := if o = 1 then x + y else if o = 2 then x - y else if o = 3 then x * y else if o = 4 then x &&& y else if x < y then 1 else 0
/-- the registers behind line l carried out for thread t -/
def wkR (P : PG) (o : Int32) (t l : Nat) (R : Nat → Int32) : Nat → Int32 :=
  if o = 0 then upd R (4 * t + m4 (P.2.1 l)) (P.2.2.1 l)
  else if o ≤ 5 then upd R (4 * t + m4 (P.2.1 l)) (kalk o (R (4 * t + m4 (P.2.2.1 l))) (R (4 * t + m4 (P.2.2.2.1 l))))
  else if o = 6 then upd R (4 * t + m4 (P.2.1 l)) (nI t)
  else if o = 7 then upd R (4 * t + m4 (P.2.1 l)) (P.2.2.2.2.1 (m16 (R (4 * t + m4 (P.2.2.1 l)))))
  else R
/-- the output cells behind it -/
def wkO (P : PG) (o : Int32) (t l : Nat) (R O : Nat → Int32) : Nat → Int32 :=
  if o = 8 then upd O (m16 (R (4 * t + m4 (P.2.1 l)))) (O (m16 (R (4 * t + m4 (P.2.1 l)))) + R (4 * t + m4 (P.2.2.1 l))) else O
/-- the line with which the thread goes on -/
def nxt (P : PG) (o : Int32) (t l : Nat) (R : Nat → Int32) : Nat := if o = 9 ∨ (o = 10 ∧ R (4 * t + m4 (P.2.1 l)) = 0) then m32 (P.2.2.1 l) else l + 1
/-- a thread: registers, outputs, line, steps, halted -/
abbrev TC : Type := (Nat → Int32) × (Nat → Int32) × Nat × Nat × Bool
abbrev zR (c : TC) : Nat → Int32 := c.1
abbrev zO (c : TC) : Nat → Int32 := c.2.1
abbrev zL (c : TC) : Nat := c.2.2.1
abbrev zK (c : TC) : Nat := c.2.2.2.1
abbrev zH (c : TC) : Bool := c.2.2.2.2
abbrev pLn (P : PG) : Nat := P.2.2.2.2.2
abbrev zStop (P : PG) (c : TC) : Prop := zH c = true ∨ pLn P ≤ zL c
def tstep (P : PG) (t : Nat) (c : TC) : TC :=
  if zH c = true ∨ pLn P ≤ zL c then c
  else if P.1 (zL c) = 11 then (zR c, zO c, zL c, zK c + 1, true)
  else (wkR P (P.1 (zL c)) t (zL c) (zR c), wkO P (P.1 (zL c)) t (zL c) (zR c) (zO c), nxt P (P.1 (zL c)) t (zL c) (zR c), zK c + 1, false)
/-- thread t behind at most n steps -/
def cfg (P : PG) (t : Nat) : Nat → TC
  | 0 => (fun _ => 0, fun _ => 0, 0, 0, false)
  | n + 1 => tstep P t (cfg P t n)
/-- its state at the end: 1 ended, 2 not -/
def zSt (P : PG) (c : TC) : Int32 := if zH c = true ∨ pLn P ≤ zL c then 1 else 2
def sm (f : Nat → Int32) : Nat → Int32
  | 0 => 0
  | n + 1 => sm f n + f n
/-! the loops over the threads -/
def etF (T : Nat) (mask x : Int32) (f : Nat → Int32) : Nat → Int32 := fun j => if j < T ∧ bt mask j = true then x else f j
def twZ (mask : Int32) (so : Nat → Int32) : Nat → Int32
  | 0 => 0
  | n + 1 => twZ mask so n ||| (if bt mask n = true ∧ ¬ so n < 48 then (1 : Int32) <<< (nI n &&& 31) else 0)
def coS (mask : Int32) (so : Nat → Int32) (n : Nat) : Nat → Int32 := fun j => if j < n ∧ bt mask j = true then so j + 1 else so j
def coR (P : PG) (o : Int32) (l : Nat) (mask : Int32) (rg : Nat → Int32) : Nat → (Nat → Int32)
  | 0 => rg
  | n + 1 => if bt mask n = true then wkR P o n l (coR P o l mask rg n) else coR P o l mask rg n
def coO (P : PG) (o : Int32) (l : Nat) (mask : Int32) (rg out : Nat → Int32) : Nat → (Nat → Int32)
  | 0 => out
  | n + 1 => if bt mask n = true then wkO P o n l (coR P o l mask rg n) (coO P o l mask rg out n) else coO P o l mask rg out n
def coZ (P : PG) (o : Int32) (l : Nat) (mask : Int32) (rg : Nat → Int32) : Nat → Int32
  | 0 => 0
  | n + 1 => if bt mask n = true then coZ P o l mask rg n ||| (if coR P o l mask rg n (4 * n + m4 (P.2.1 l)) = 0 then (1 : Int32) <<< (nI n &&& 31) else 0) else coZ P o l mask rg n
def zr (n : Nat) (f : Nat → Int32) : Nat → Int32 := fun j => if j < n then 0 else f j
theorem zr_0 (f : Nat → Int32) : zr 0 f = f := by
  funext j
  simp [zr]
theorem zr_s (n : Nat) (f : Nat → Int32) : upd (zr n f) n 0 = zr (n + 1) f := by
  funext j
  unfold upd zr
  by_cases h : j = n
  · rw [if_pos h, if_pos (by omega)]
  · rw [if_neg h]
    by_cases h2 : j < n
    · rw [if_pos h2, if_pos (by omega)]
    · rw [if_neg h2, if_neg (by omega)]
theorem etF_0 (mask x : Int32) (f : Nat → Int32) : etF 0 mask x f = f := by
  funext j
  simp [etF]
theorem etF_t {mask : Int32} {i : Nat} (h : bt mask i = true) (x : Int32) (f : Nat → Int32) : upd (etF i mask x f) i x = etF (i + 1) mask x f := by
  funext j
  unfold upd etF
  by_cases hj : j = i
  · rw [if_pos hj, hj, if_pos ⟨by omega, h⟩]
  · rw [if_neg hj]
    by_cases h2 : j < i ∧ bt mask j = true
    · rw [if_pos h2, if_pos ⟨by omega, h2.2⟩]
    · rw [if_neg h2, if_neg (fun q => h2 ⟨by omega, q.2⟩)]
theorem etF_f {mask : Int32} {i : Nat} (h : bt mask i = false) (x : Int32) (f : Nat → Int32) : etF i mask x f = etF (i + 1) mask x f := by
  funext j
  unfold etF
  by_cases hj : j = i
  · rw [hj, h, if_neg (by simp), if_neg (by simp)]
  · by_cases h2 : j < i ∧ bt mask j = true
    · rw [if_pos h2, if_pos ⟨by omega, h2.2⟩]
    · rw [if_neg h2, if_neg (fun q => h2 ⟨by omega, q.2⟩)]
theorem coS_0 (mask : Int32) (so : Nat → Int32) : coS mask so 0 = so := by
  funext j
  simp [coS]
theorem coS_at (mask : Int32) (so : Nat → Int32) (i : Nat) : coS mask so i i = so i := by
  unfold coS
  rw [if_neg (by omega)]
theorem coS_t {mask : Int32} {i : Nat} (h : bt mask i = true) (so : Nat → Int32) : upd (coS mask so i) i (coS mask so i i + 1) = coS mask so (i + 1) := by
  funext j
  rw [coS_at]
  unfold upd coS
  by_cases hj : j = i
  · rw [if_pos hj, hj, if_pos ⟨by omega, h⟩]
  · rw [if_neg hj]
    by_cases h2 : j < i ∧ bt mask j = true
    · rw [if_pos h2, if_pos ⟨by omega, h2.2⟩]
    · rw [if_neg h2, if_neg (fun q => h2 ⟨by omega, q.2⟩)]
theorem coS_f {mask : Int32} {i : Nat} (h : bt mask i = false) (so : Nat → Int32) : coS mask so i = coS mask so (i + 1) := by
  funext j
  unfold coS
  by_cases hj : j = i
  · rw [hj, h, if_neg (by simp), if_neg (by simp)]
  · by_cases h2 : j < i ∧ bt mask j = true
    · rw [if_pos h2, if_pos ⟨by omega, h2.2⟩]
    · rw [if_neg h2, if_neg (fun q => h2 ⟨by omega, q.2⟩)]
theorem z_tt {b : Bool} (h : ¬ b = false) : b = true := by
  cases b
  · exact absurd rfl h
  · rfl
end
section
/-! the cases of the pure functions; the relations of branch, carryOut, stepWarp -/
theorem wkR_a {P : PG} {o : Int32} {t l : Nat} {R : Nat → Int32} (h : o = 0) : wkR P o t l R = upd R (4 * t + m4 (P.2.1 l)) (P.2.2.1 l) := by
  unfold wkR
  rw [if_pos h]
theorem wkR_b {P : PG} {o : Int32} {t l : Nat} {R : Nat → Int32} (h0 : ¬ o = 0) (h : o ≤ 5) : wkR P o t l R = upd R (4 * t + m4 (P.2.1 l)) (kalk o (R (4 * t + m4 (P.2.2.1 l))) (R (4 * t + m4 (P.2.2.2.1 l)))) := by
  unfold wkR
  rw [if_neg h0, if_pos h]
theorem wkR_c {P : PG} {o : Int32} {t l : Nat} {R : Nat → Int32} (h : o = 6) : wkR P o t l R = upd R (4 * t + m4 (P.2.1 l)) (nI t) := by
  subst h
  unfold wkR
  rw [if_neg (by decide), if_neg (by decide), if_pos rfl]
theorem wkR_d {P : PG} {o : Int32} {t l : Nat} {R : Nat → Int32} (h : o = 7) : wkR P o t l R = upd R (4 * t + m4 (P.2.1 l)) (P.2.2.2.2.1 (m16 (R (4 * t + m4 (P.2.2.1 l))))) := by
  subst h
  unfold wkR
  rw [if_neg (by decide), if_neg (by decide), if_neg (by decide), if_pos rfl]
theorem wkR_e {P : PG} {o : Int32} {t l : Nat} {R : Nat → Int32} (h0 : ¬ o = 0) (h5 : ¬ o ≤ 5) (h6 : ¬ o = 6) (h7 : ¬ o = 7) : wkR P o t l R = R := by
  unfold wkR
  rw [if_neg h0, if_neg h5, if_neg h6, if_neg h7]
theorem wkO_y {P : PG} {o : Int32} {t l : Nat} {R O : Nat → Int32} (h : o = 8) : wkO P o t l R O = upd O (m16 (R (4 * t + m4 (P.2.1 l)))) (O (m16 (R (4 * t + m4 (P.2.1 l)))) + R (4 * t + m4 (P.2.2.1 l))) := by
  unfold wkO
  rw [if_pos h]
theorem wkO_n {P : PG} {o : Int32} {t l : Nat} {R O : Nat → Int32} (h : ¬ o = 8) : wkO P o t l R O = O := by
  unfold wkO
  rw [if_neg h]
theorem coR_t {P : PG} {o : Int32} {l n : Nat} {mask : Int32} {rg : Nat → Int32} (h : bt mask n = true) : wkR P o n l (coR P o l mask rg n) = coR P o l mask rg (n + 1) := by
  show _ = ite _ _ _
  rw [if_pos h]
theorem coR_f {P : PG} {o : Int32} {l n : Nat} {mask : Int32} {rg : Nat → Int32} (h : bt mask n = false) : coR P o l mask rg n = coR P o l mask rg (n + 1) := by
  show _ = ite _ _ _
  rw [if_neg (by rw [h]; decide)]
theorem coO_t {P : PG} {o : Int32} {l n : Nat} {mask : Int32} {rg out : Nat → Int32} (h : bt mask n = true) : wkO P o n l (coR P o l mask rg n) (coO P o l mask rg out n) = coO P o l mask rg out (n + 1) := by
  show _ = ite _ _ _
  rw [if_pos h]
theorem coO_f {P : PG} {o : Int32} {l n : Nat} {mask : Int32} {rg out : Nat → Int32} (h : bt mask n = false) : coO P o l mask rg out n = coO P o l mask rg out (n + 1) := by
  show _ = ite _ _ _
  rw [if_neg (by rw [h]; decide)]
theorem coZ_f {P : PG} {o : Int32} {l n : Nat} {mask : Int32} {rg : Nat → Int32} (h : bt mask n = false) : coZ P o l mask rg n = coZ P o l mask rg (n + 1) := by
  show _ = ite _ _ _
  rw [if_neg (by rw [h]; decide)]
theorem coZ_y {P : PG} {o : Int32} {l n : Nat} {mask : Int32} {rg : Nat → Int32} (h : bt mask n = true) (h2 : coR P o l mask rg n (4 * n + m4 (P.2.1 l)) = 0) : coZ P o l mask rg n ||| ((1 : Int32) <<< (nI n &&& 31)) = coZ P o l mask rg (n + 1) := by
  show _ = ite _ _ _
  rw [if_pos h, if_pos h2]
theorem coZ_n {P : PG} {o : Int32} {l n : Nat} {mask : Int32} {rg : Nat → Int32} (h : bt mask n = true) (h2 : ¬ coR P o l mask rg n (4 * n + m4 (P.2.1 l)) = 0) : coZ P o l mask rg n ||| 0 = coZ P o l mask rg (n + 1) := by
  show _ = ite _ _ _
  rw [if_pos h, if_neg h2]
theorem twZ_y {mask : Int32} {so : Nat → Int32} {n : Nat} (h : bt mask n = true) (h2 : ¬ so n < 48) : twZ mask so n ||| ((1 : Int32) <<< (nI n &&& 31)) = twZ mask so (n + 1) := by
  show _ = _ ||| ite _ _ _
  rw [if_pos ⟨h, h2⟩]
theorem twZ_n {mask : Int32} {so : Nat → Int32} {n : Nat} (h : ¬ (bt mask n = true ∧ ¬ so n < 48)) : twZ mask so n ||| 0 = twZ mask so (n + 1) := by
  show _ = _ ||| ite _ _ _
  rw [if_neg h]
/-- branch(k, l0, zero, other): depth, lines, ends, masks behind it -/
def brR (fb mt : Nat → Int32) (k l0 d : Nat) (zero other : Int32) (pl pe pm : Nat → Int32) (u : Nat × (Nat → Int32) × (Nat → Int32) × (Nat → Int32)) : Prop :=
  (other = 0 ∧ u = (d, upd pl k (nI (m32 (fb l0))), pe, pm)) ∨
  (¬ other = 0 ∧ zero = 0 ∧ u = (d, upd pl k (nI (l0 + 1)), pe, pm)) ∨
  (¬ other = 0 ∧ ¬ zero = 0 ∧ u = (d + 2, upd (upd (upd pl k (mt l0)) d (nI (l0 + 1))) (d + 1) (nI (m32 (fb l0))), upd (upd pe d (mt l0)) (d + 1) (mt l0), upd (upd pm d other) (d + 1) zero))
/-- carryOut(k, l0, mk): lineOf, stateOf, alive, and the stack of parts behind it -/
def caR (P : PG) (mt : Nat → Int32) (T k l0 d : Nat) (mk : Int32) (rg lo st : Nat → Int32) (al : Int32) (pl pe pm : Nat → Int32) (u : (Nat → Int32) × (Nat → Int32) × Int32 × Nat × (Nat → Int32) × (Nat → Int32) × (Nat → Int32)) : Prop :=
  (P.1 l0 = 11 ∧ u = (etF T mk (nI l0) lo, etF T mk 1 st, al &&& (mk ^^^ (-1)), d, pl, pe, pm)) ∨
  (P.1 l0 = 9 ∧ u = (lo, st, al, d, upd pl k (nI (m32 (P.2.2.1 l0))), pe, pm)) ∨
  (P.1 l0 = 10 ∧ ∃ v : Nat × (Nat → Int32) × (Nat → Int32) × (Nat → Int32), brR P.2.2.1 mt k l0 d (coZ P (P.1 l0) l0 mk rg T) (mk &&& (coZ P (P.1 l0) l0 mk rg T ^^^ (-1))) pl pe pm v ∧ u = (lo, st, al, v)) ∨
  (¬ P.1 l0 = 11 ∧ ¬ P.1 l0 = 9 ∧ ¬ P.1 l0 = 10 ∧ u = (lo, st, al, d, upd pl k (nI (l0 + 1)), pe, pm))
abbrev SW : Type := (Nat → Int32) × (Nat → Int32) × (Nat → Int32) × (Nat → Int32) × (Nat → Int32) × Int32 × Nat × (Nat → Int32) × (Nat → Int32) × (Nat → Int32)
/-- stepWarp() with k + 1 parts: out, registers, lineOf, stepsOf, stateOf, alive, and the stack of parts behind it -/
def swR (P : PG) (mt : Nat → Int32) (T k : Nat) (out rg lo so st : Nat → Int32) (al : Int32) (pl pe pm : Nat → Int32) (u : SW) : Prop :=
  ((pm k &&& al = 0 ∨ pl k = pe k) ∧ u = (out, rg, lo, so, st, al, k, pl, pe, pm)) ∨
  (¬ pm k &&& al = 0 ∧ ¬ pl k = pe k ∧ ∃ l0 : Nat, l0 < 2 ^ 31 ∧ pl k = nI l0 ∧
    ((P.2.2.2.2.2 ≤ l0 ∧ u = (out, rg, etF T (pm k &&& al) (nI l0) lo, so, etF T (pm k &&& al) 1 st, al &&& ((pm k &&& al) ^^^ (-1)), k + 1, pl, pe, pm)) ∨
     (l0 < P.2.2.2.2.2 ∧ ¬ twZ (pm k &&& al) so T = 0 ∧ u = (out, rg, etF T (twZ (pm k &&& al) so T) (nI l0) lo, so, etF T (twZ (pm k &&& al) so T) 2 st, al &&& (twZ (pm k &&& al) so T ^^^ (-1)), k + 1, pl, pe, pm)) ∨
     (l0 < P.2.2.2.2.2 ∧ twZ (pm k &&& al) so T = 0 ∧ ∃ v : (Nat → Int32) × (Nat → Int32) × Int32 × Nat × (Nat → Int32) × (Nat → Int32) × (Nat → Int32), caR P mt T k l0 (k + 1) (pm k &&& al) rg lo st al pl pe (upd pm k (pm k &&& al)) v ∧
       u = (coO P (P.1 l0) l0 (pm k &&& al) rg out T, coR P (P.1 l0) l0 (pm k &&& al) rg T, v.1, coS (pm k &&& al) so T, v.2.1, v.2.2.1, v.2.2.2.1, v.2.2.2.2.1, v.2.2.2.2.2.1, v.2.2.2.2.2.2))))
end
section
/-! one thread alone: laws -/
theorem z_lt1 {o : Int32} (h : o < 1) (h0 : 0 ≤ o) : o = 0 := by
  apply Int32.toInt_inj.mp
  have h1 := Int32.lt_iff_toInt_lt.mp h
  have h2 := Int32.le_iff_toInt_le.mp h0
  have e1 : (1 : Int32).toInt = 1 := by decide
  have e0 : (0 : Int32).toInt = 0 := by decide
  omega
theorem nxt_y {P : PG} {o : Int32} {t l : Nat} {R : Nat → Int32} (h : o = 9 ∨ (o = 10 ∧ R (4 * t + m4 (P.2.1 l)) = 0)) : nxt P o t l R = m32 (P.2.2.1 l) := by
  unfold nxt
  rw [if_pos h]
theorem nxt_n {P : PG} {o : Int32} {t l : Nat} {R : Nat → Int32} (h : ¬ (o = 9 ∨ (o = 10 ∧ R (4 * t + m4 (P.2.1 l)) = 0))) : nxt P o t l R = l + 1 := by
  unfold nxt
  rw [if_neg h]
theorem upd_upd (f : Nat → Int32) (k : Nat) (x y : Int32) : upd (upd f k x) k y = upd f k y := by
  funext j
  unfold upd
  by_cases h : j = k
  · rw [if_pos h, if_pos h]
  · rw [if_neg h, if_neg h, if_neg h]
theorem tstep_stop {P : PG} {t : Nat} {c : TC} (h : zStop P c) : tstep P t c = c := by
  unfold tstep
  rw [if_pos h]
theorem tstep_halt {P : PG} {t : Nat} {c : TC} (h : ¬ zStop P c) (ho : P.1 (zL c) = 11) : tstep P t c = (zR c, zO c, zL c, zK c + 1, true) := by
  unfold tstep
  rw [if_neg h, if_pos ho]
theorem tstep_go {P : PG} {t : Nat} {c : TC} (h : ¬ zStop P c) (ho : ¬ P.1 (zL c) = 11) : tstep P t c = (wkR P (P.1 (zL c)) t (zL c) (zR c), wkO P (P.1 (zL c)) t (zL c) (zR c) (zO c), nxt P (P.1 (zL c)) t (zL c) (zR c), zK c + 1, false) := by
  unfold tstep
  rw [if_neg h, if_neg ho]
theorem cfg_stop {P : PG} {t i : Nat} (h : zStop P (cfg P t i)) : ∀ j, i ≤ j → cfg P t j = cfg P t i := by
  intro j
  induction j with
  | zero =>
    intro hj
    have : i = 0 := by omega
    rw [this]
  | succ j ih =>
    intro hj
    rcases Nat.lt_or_ge i (j + 1) with q | q
    · have e := ih (by omega)
      show tstep P t (cfg P t j) = _
      rw [e]
      exact tstep_stop h
    · have : i = j + 1 := by omega
      rw [this]
theorem cfg_k (P : PG) (t n : Nat) : zK (cfg P t n) ≤ n := by
  induction n with
  | zero => exact Nat.le_refl _
  | succ n ih =>
    show zK (tstep P t (cfg P t n)) ≤ n + 1
    by_cases h : zStop P (cfg P t n)
    · rw [tstep_stop h]; omega
    · by_cases ho : P.1 (zL (cfg P t n)) = 11
      · rw [tstep_halt h ho]; show zK _ + 1 ≤ _; omega
      · rw [tstep_go h ho]; show zK _ + 1 ≤ _; omega
theorem cfg_ks {P : PG} {t n : Nat} (h : ¬ zStop P (cfg P t n)) : zK (cfg P t (n + 1)) = zK (cfg P t n) + 1 := by
  show zK (tstep P t (cfg P t n)) = _
  by_cases ho : P.1 (zL (cfg P t n)) = 11
  · rw [tstep_halt h ho]
  · rw [tstep_go h ho]
theorem cfg_real {P : PG} {t : Nat} : ∀ n, ¬ zStop P (cfg P t n) → zK (cfg P t n) = n := by
  intro n
  induction n with
  | zero => intro _; rfl
  | succ n ih =>
    intro h
    have h1 : ¬ zStop P (cfg P t n) := fun q => h (by rw [cfg_stop q (n + 1) (by omega)]; exact q)
    rw [cfg_ks h1, ih h1]
theorem cfg_line {P : PG} (hL : pLn P ≤ 32) (t n : Nat) : zL (cfg P t n) ≤ 32 := by
  induction n with
  | zero => exact Nat.zero_le _
  | succ n ih =>
    show zL (tstep P t (cfg P t n)) ≤ 32
    by_cases h : zStop P (cfg P t n)
    · rw [tstep_stop h]; exact ih
    · have h2 : zL (cfg P t n) < pLn P := Nat.lt_of_not_le fun q => h (Or.inr q)
      by_cases ho : P.1 (zL (cfg P t n)) = 11
      · rw [tstep_halt h ho]; exact ih
      · rw [tstep_go h ho]
        show nxt _ _ _ _ _ ≤ 32
        unfold nxt
        split
        · exact Nat.le_of_lt (m32_lt _)
        · omega
/-- two register files agree for thread t -/
def agr (t : Nat) (R R' : Nat → Int32) : Prop := ∀ r, r < 4 → R (4 * t + r) = R' (4 * t + r)
theorem upd_agr {t : Nat} {R R' : Nat → Int32} (h : agr t R R') (k : Nat) {x y : Int32} (e : x = y) : agr t (upd R k x) (upd R' k y) := by
  intro r hr
  unfold upd
  by_cases q : 4 * t + r = k
  · rw [if_pos q, if_pos q, e]
  · rw [if_neg q, if_neg q, h r hr]
theorem wkR_agr {P : PG} {o : Int32} {t l : Nat} {R R' : Nat → Int32} (h : agr t R R') : agr t (wkR P o t l R) (wkR P o t l R') := by
  have hb := h _ (m4_lt (P.2.2.1 l))
  have hc := h _ (m4_lt (P.2.2.2.1 l))
  unfold wkR
  rw [hb, hc]
  split
  · exact upd_agr h _ rfl
  · split
    · exact upd_agr h _ rfl
    · split
      · exact upd_agr h _ rfl
      · split
        · exact upd_agr h _ rfl
        · exact h
theorem upd_off {R : Nat → Int32} {t k j : Nat} {x : Int32} (hj : j < 4 * t ∨ 4 * t + 4 ≤ j) (hk : k < 4) : upd R (4 * t + k) x j = R j := by
  unfold upd
  rw [if_neg (by omega)]
theorem wkR_off {P : PG} {o : Int32} {t l : Nat} {R : Nat → Int32} {j : Nat} (hj : j < 4 * t ∨ 4 * t + 4 ≤ j) : wkR P o t l R j = R j := by
  have ha := m4_lt (P.2.1 l)
  unfold wkR
  split
  · exact upd_off hj ha
  · split
    · exact upd_off hj ha
    · split
      · exact upd_off hj ha
      · split
        · exact upd_off hj ha
        · rfl
theorem nxt_agr {P : PG} {o : Int32} {t l : Nat} {R R' : Nat → Int32} (h : agr t R R') : nxt P o t l R = nxt P o t l R' := by
  unfold nxt
  rw [h _ (m4_lt (P.2.1 l))]
/-- what the line adds to the output cell c -/
def dlt (P : PG) (o : Int32) (t l : Nat) (R : Nat → Int32) (c : Nat) : Int32 := if o = 8 ∧ c = m16 (R (4 * t + m4 (P.2.1 l))) then R (4 * t + m4 (P.2.2.1 l)) else 0
theorem wkO_dlt (P : PG) (o : Int32) (t l : Nat) (R O : Nat → Int32) (c : Nat) : wkO P o t l R O c = O c + dlt P o t l R c := by
  unfold wkO dlt
  by_cases h : o = 8
  · rw [if_pos h]
    unfold upd
    by_cases q : c = m16 (R (4 * t + m4 (P.2.1 l)))
    · rw [if_pos q, if_pos ⟨h, q⟩, ← q]
    · rw [if_neg q, if_neg (fun z => q z.2), Int32.add_zero]
  · rw [if_neg h, if_neg (fun z => h z.1), Int32.add_zero]
theorem dlt_agr {P : PG} {o : Int32} {t l : Nat} {R R' : Nat → Int32} (h : agr t R R') (c : Nat) : dlt P o t l R c = dlt P o t l R' c := by
  unfold dlt
  rw [h _ (m4_lt (P.2.1 l)), h _ (m4_lt (P.2.2.1 l))]
/-- arrays R, O hold thread t behind i steps, begun with rg0, out0 -/
def thR (P : PG) (t i : Nat) (rg0 out0 R O : Nat → Int32) : Prop :=
  agr t R (zR (cfg P t i)) ∧ (∀ j, j < 4 * t ∨ 4 * t + 4 ≤ j → R j = rg0 j) ∧ ∀ c, O c = out0 c + zO (cfg P t i) c
theorem thR_halt {P : PG} {t i : Nat} {rg0 out0 R O : Nat → Int32} (h : thR P t i rg0 out0 R O) (hs : ¬ zStop P (cfg P t i)) (ho : P.1 (zL (cfg P t i)) = 11) : thR P t (i + 1) rg0 out0 R O ∧ zL (cfg P t (i + 1)) = zL (cfg P t i) ∧ zH (cfg P t (i + 1)) = true := by
  have e : cfg P t (i + 1) = (zR (cfg P t i), zO (cfg P t i), zL (cfg P t i), zK (cfg P t i) + 1, true) := tstep_halt hs ho
  unfold thR
  rw [e]
  exact ⟨h, rfl, rfl⟩
theorem thR_go {P : PG} {t i : Nat} {rg0 out0 R O : Nat → Int32} (h : thR P t i rg0 out0 R O) (hs : ¬ zStop P (cfg P t i)) (ho : ¬ P.1 (zL (cfg P t i)) = 11) :
    thR P t (i + 1) rg0 out0 (wkR P (P.1 (zL (cfg P t i))) t (zL (cfg P t i)) R) (wkO P (P.1 (zL (cfg P t i))) t (zL (cfg P t i)) R O) ∧ zL (cfg P t (i + 1)) = nxt P (P.1 (zL (cfg P t i))) t (zL (cfg P t i)) R ∧ zH (cfg P t (i + 1)) = false := by
  have e : cfg P t (i + 1) = _ := tstep_go hs ho
  obtain ⟨h1, h2, h3⟩ := h
  unfold thR
  rw [e]
  refine ⟨⟨wkR_agr h1, fun j hj => (wkR_off hj).trans (h2 j hj), fun c => ?_⟩, (nxt_agr h1).symm, rfl⟩
  show _ = _ + wkO _ _ _ _ _ _ c
  rw [wkO_dlt, wkO_dlt, h3 c, dlt_agr h1 c, Int32.add_assoc]
/-- zeros at the registers of thread t, the first i of them -/
def z4 (t i : Nat) (f : Nat → Int32) : Nat → Int32 := fun j => if 4 * t ≤ j ∧ j < 4 * t + i then 0 else f j
theorem z4_0 (t : Nat) (f : Nat → Int32) : z4 t 0 f = f := by
  funext j
  unfold z4
  rw [if_neg (by omega)]
theorem z4_s (t i : Nat) (f : Nat → Int32) : upd (z4 t i f) (4 * t + i) 0 = z4 t (i + 1) f := by
  funext j
  unfold upd z4
  by_cases h : j = 4 * t + i
  · rw [if_pos h, if_pos (by omega)]
  · rw [if_neg h]
    by_cases h2 : 4 * t ≤ j ∧ j < 4 * t + i
    · rw [if_pos h2, if_pos (by omega)]
    · rw [if_neg h2, if_neg (by omega)]
theorem thR_0 (P : PG) (t : Nat) (rg0 out0 : Nat → Int32) : thR P t 0 rg0 out0 (z4 t 4 rg0) out0 := by
  refine ⟨fun r hr => ?_, fun j hj => ?_, fun c => ?_⟩
  · unfold z4
    rw [if_pos (by omega)]
    rfl
  · unfold z4
    rw [if_neg (by omega)]
  · show _ = _ + (0 : Int32)
    rw [Int32.add_zero]
/-- how many of the first n threads end with state 1 -/
def cnt (P : PG) : Nat → Nat
  | 0 => 0
  | n + 1 => if zSt P (cfg P n 48) = 1 then cnt P n + 1 else cnt P n
theorem cnt_le (P : PG) (n : Nat) : cnt P n ≤ n := by
  induction n with
  | zero => exact Nat.le_refl _
  | succ n ih =>
    show ite _ _ _ ≤ _
    split <;> omega
/-- the arrays hold what n threads, one after the other, leave -/
def finR (P : PG) (n : Nat) (out rg lo so st : Nat → Int32) : Prop :=
  (∀ c, c < 16 → out c = sm (fun t => zO (cfg P t 48) c) n) ∧
  ∀ t, t < n → agr t rg (zR (cfg P t 48)) ∧ lo t = nI (zL (cfg P t 48)) ∧ so t = nI (zK (cfg P t 48)) ∧ st t = zSt P (cfg P t 48)
theorem finR_0 (P : PG) (out rg lo so st : Nat → Int32) : finR P 0 (zr 16 out) rg lo so st := by
  refine ⟨fun c hc => ?_, fun t ht => absurd ht (Nat.not_lt_zero t)⟩
  unfold zr
  rw [if_pos hc]
  rfl
theorem finR_s {P : PG} {n : Nat} {out rg lo so st R O : Nat → Int32} (h : finR P n out rg lo so st) (h2 : thR P n 48 rg out R O) : finR P (n + 1) O R (upd lo n (nI (zL (cfg P n 48)))) (upd so n (nI (zK (cfg P n 48)))) (upd st n (zSt P (cfg P n 48))) := by
  obtain ⟨h1, h3⟩ := h
  obtain ⟨g1, g2, g3⟩ := h2
  refine ⟨fun c hc => ?_, fun t ht => ?_⟩
  · rw [g3 c, h1 c hc]
    rfl
  · rcases Nat.lt_or_ge t n with q | q
    · obtain ⟨k1, k2, k3, k4⟩ := h3 t q
      have hne : t ≠ n := by omega
      refine ⟨fun r hr => ?_, ?_, ?_, ?_⟩
      · rw [g2 (4 * t + r) (by omega)]
        exact k1 r hr
      · rw [pk_un hne]; exact k2
      · rw [pk_un hne]; exact k3
      · rw [pk_un hne]; exact k4
    · have : t = n := by omega
      subst this
      exact ⟨g1, pk_us, pk_us, pk_us⟩
end
section
theorem zSt_lt {P : PG} {c : TC} (h : ¬ pLn P ≤ zL c) : zSt P c = (if zH c = true then 1 else 2) := by
  unfold zSt
  by_cases q : zH c = true
  · rw [if_pos q, if_pos (Or.inl q)]
  · rw [if_neg q, if_neg (fun z => z.elim q h)]
theorem zSt_ge {P : PG} {c : TC} (h : pLn P ≤ zL c) : zSt P c = 1 := by
  unfold zSt
  rw [if_pos (Or.inr h)]
theorem cnt_y {P : PG} {n : Nat} (h : zSt P (cfg P n 48) = 1) : cnt P (n + 1) = cnt P n + 1 := by
  show ite _ _ _ = _
  rw [if_pos h]
theorem cnt_n {P : PG} {n : Nat} (h : ¬ zSt P (cfg P n 48) = 1) : cnt P n = cnt P (n + 1) := by
  show _ = ite _ _ _
  rw [if_neg h]
end
section
/-! contracts: the small methods of WarpMachine -/
set_option maxHeartbeats 4000000 in
set_option maxRecDepth 100000 in
/-- clear(): no line is left -/
theorem mX1_clear (l : Launch) (dC : Nat → ClassId) (dI : Nat → Nat → Nat) (a : Nat → Nat) (cI cJ : ClassId) (sz : Nat) (T L : Nat) (op fa fb fc inp out rg lo so st : Nat → Int32) (ps : Nat → Int64) (mt : Nat → Int32) (al dp : Int32) (pl pe pm : Nat → Int32)   : Met l yX1_clear (ws_ yX1_clear cX1_clear 1 none) ({ frames := 0, cells := 0, slots := 0, locals := 0 } : Room) (va_Pc [.ref (a 0)] (prW dC dI (tyL cI cJ) sz (w1 a cI cJ (nI T) (nI L) op fa fb fc inp out rg lo so st ps mt al dp pl pe pm))) (va_Qv (fun (_ : Unit) => True) (fun _ => poW dC dI (tyL cI cJ) (va_A (w1 a cI cJ (nI T) (nI L) op fa fb fc inp out rg lo so st ps mt al dp pl pe pm) sz) (w1 a cI cJ (nI T) 0 op fa fb fc inp out rg lo so st ps mt al dp pl pe pm)) (va_A (w1 a cI cJ (nI T) (nI L) op fa fb fc inp out rg lo so st ps mt al dp pl pe pm) sz)) 0 0 (va_A (w1 a cI cJ (nI T) (nI L) op fa fb fc inp out rg lo so st ps mt al dp pl pe pm) sz) := by
  refine n_met (by decide) (Nat.le_of_ble_eq_true rfl) ?_
  intro p e s m below meth c ls SF hr hlocks hnm hsz hK hP hD hA hl
  subst hsz
  have hS : va_S (va_A (w1 a cI cJ (nI T) (nI L) op fa fb fc inp out rg lo so st ps mt al dp pl pe pm) s.heap.size) s.heap s.heap [] := va_S.rf
  generalize va_A (w1 a cI cJ (nI T) (nI L) op fa fb fc inp out rg lo so st ps mt al dp pl pe pm) s.heap.size = A at hD hA hS ⊢
  obtain ⟨hx, hb, hml, hown, hts⟩ := id SF
  have hown : s.vm.findClass RX1 = some m.cls := hown
  have SF : CallFix p m c cX1_clear 1 s _ lw_all RX1 := SF
  have hl : lv_has ls 1 [(0, .ref (a 0))] := hl
  refine lv_aload_n hx hb dX1_clear_0 rfl (lv_at hl 0 rfl) ?_
  refine lv_iconst (v := 0) hx hb dX1_clear_1 (by decide) ?_
  refine va_put (D := (dC, dI)) (ci := 0) (v := .int 0) (ty := .int) (C := RX1) (T := TX1) (N := 19) hx hb hts in_X1 tyX1 tyX1_ok nmX1 hown hK hP hD hS 0 rfl rfl 1 (by decide) (hts _ q27) (fun _ h9 => h9) rfl (by decide +kernel) rfl rfl (Nat.le_of_ble_eq_true rfl) dX1_clear_2 (fun H locs hP hD hS => ?_)
  have hP : va_P (dC, dI) vwCl (w1 a cI cJ (nI T) 0 op fa fb fc inp out rg lo so st ps mt al dp pl pe pm) H := hP
  have hD : va_D A (w1 a cI cJ (nI T) 0 op fa fb fc inp out rg lo so st ps mt al dp pl pe pm) := hD
  exact W.vret hx hb hr (fun t9 h9 hW9 => ⟨⟨(), rfl, trivial, by rw [h9]; exact hP, va_K.moved hW9.alike hK, hD⟩, hS.F h9⟩) hS.2.2 dX1_clear_5
set_option maxHeartbeats 4000000 in
set_option maxRecDepth 100000 in
theorem mX1_input (l : Launch) (dC : Nat → ClassId) (dI : Nat → Nat → Nat) (a : Nat → Nat) (cI cJ : ClassId) (sz : Nat) (T L : Nat) (op fa fb fc inp out rg lo so st : Nat → Int32) (ps : Nat → Int64) (mt : Nat → Int32) (al dp : Int32) (pl pe pm : Nat → Int32) (k v : Int32)  : Met l yX1_input (ws_ yX1_input cX1_input 3 none) ({ frames := 0, cells := 0, slots := 0, locals := 0 } : Room) (va_Pc [.ref (a 0), .int k, .int v] (prW dC dI (tyL cI cJ) sz (w1 a cI cJ (nI T) (nI L) op fa fb fc inp out rg lo so st ps mt al dp pl pe pm))) (va_Qv (fun (_ : Unit) => True) (fun _ => poW dC dI (tyL cI cJ) (va_A (w1 a cI cJ (nI T) (nI L) op fa fb fc inp out rg lo so st ps mt al dp pl pe pm) sz) (w1 a cI cJ (nI T) (nI L) op fa fb fc (upd inp (m16 k) v) out rg lo so st ps mt al dp pl pe pm)) (va_A (w1 a cI cJ (nI T) (nI L) op fa fb fc inp out rg lo so st ps mt al dp pl pe pm) sz)) 0 0 (va_A (w1 a cI cJ (nI T) (nI L) op fa fb fc inp out rg lo so st ps mt al dp pl pe pm) sz) := by
  refine n_met (by decide) (Nat.le_of_ble_eq_true rfl) ?_
  intro p e s m below meth c ls SF hr hlocks hnm hsz hK hP hD hA hl
  subst hsz
  have hS : va_S (va_A (w1 a cI cJ (nI T) (nI L) op fa fb fc inp out rg lo so st ps mt al dp pl pe pm) s.heap.size) s.heap s.heap [] := va_S.rf
  generalize va_A (w1 a cI cJ (nI T) (nI L) op fa fb fc inp out rg lo so st ps mt al dp pl pe pm) s.heap.size = A at hD hA hS ⊢
  obtain ⟨hx, hb, hml, hown, hts⟩ := id SF
  have hown : s.vm.findClass RX1 = some m.cls := hown
  have SF : CallFix p m c cX1_input 3 s _ lw_all RX1 := SF
  have hl : lv_has ls 3 [(0, .ref (a 0)), (1, .int k), (2, .int v)] := hl
  refine lv_aload_n hx hb dX1_input_0 rfl (lv_at hl 0 rfl) ?_
  refine va_get (D := (dC, dI)) (ci := 0) (v := .ref (a 5)) (C := RX1) (T := TX1) (N := 19) hx hb hts in_X1 hown hK hP 0 rfl rfl 6 (by decide) (hts _ q32) (fun _ h9 => h9) rfl dX1_input_1 ?_
  refine lv_iload_n hx hb dX1_input_4 rfl (lv_at hl 1 rfl) ?_
  refine lv_bipush (v := 15) hx hb dX1_input_5 (by decide) ?_
  refine lv_iand hx hb dX1_input_7 ?_
  refine lv_iload_n hx hb dX1_input_8 rfl (lv_at hl 2 rfl) ?_
  refine n_iast hx hb hK hP hD hS 5 0 rfl rfl (m16 k) (e16 k) (m16_lt k) (by decide) dX1_input_9 (fun H locs hP hD hS => ?_)
  have hP : va_P (dC, dI) vwCl (w1 a cI cJ (nI T) (nI L) op fa fb fc (upd inp (m16 k) v) out rg lo so st ps mt al dp pl pe pm) H := hP
  have hD : va_D A (w1 a cI cJ (nI T) (nI L) op fa fb fc (upd inp (m16 k) v) out rg lo so st ps mt al dp pl pe pm) := hD
  exact W.vret hx hb hr (fun t9 h9 hW9 => ⟨⟨(), rfl, trivial, by rw [h9]; exact hP, va_K.moved hW9.alike hK, hD⟩, hS.F h9⟩) hS.2.2 dX1_input_10
set_option maxHeartbeats 4000000 in
set_option maxRecDepth 100000 in
theorem mX1_output (l : Launch) (dC : Nat → ClassId) (dI : Nat → Nat → Nat) (a : Nat → Nat) (cI cJ : ClassId) (sz : Nat) (T L : Nat) (op fa fb fc inp out rg lo so st : Nat → Int32) (ps : Nat → Int64) (mt : Nat → Int32) (al dp : Int32) (pl pe pm : Nat → Int32) (k : Int32)  : Met l yX1_output (ws_ yX1_output cX1_output 2 (some .int)) ({ frames := 0, cells := 0, slots := 0, locals := 0 } : Room) (va_Pc [.ref (a 0), .int k] (prW dC dI (tyL cI cJ) sz (w1 a cI cJ (nI T) (nI L) op fa fb fc inp out rg lo so st ps mt al dp pl pe pm))) (va_Qi (fun (r : Int32) (_ : Unit) => r = out (m16 k)) (fun _ => poW dC dI (tyL cI cJ) (va_A (w1 a cI cJ (nI T) (nI L) op fa fb fc inp out rg lo so st ps mt al dp pl pe pm) sz) (w1 a cI cJ (nI T) (nI L) op fa fb fc inp out rg lo so st ps mt al dp pl pe pm)) (va_A (w1 a cI cJ (nI T) (nI L) op fa fb fc inp out rg lo so st ps mt al dp pl pe pm) sz)) 0 0 (va_A (w1 a cI cJ (nI T) (nI L) op fa fb fc inp out rg lo so st ps mt al dp pl pe pm) sz) := by
  refine n_met (by decide) (Nat.le_of_ble_eq_true rfl) ?_
  intro p e s m below meth c ls SF hr hlocks hnm hsz hK hP hD hA hl
  subst hsz
  have hS : va_S (va_A (w1 a cI cJ (nI T) (nI L) op fa fb fc inp out rg lo so st ps mt al dp pl pe pm) s.heap.size) s.heap s.heap [] := va_S.rf
  generalize va_A (w1 a cI cJ (nI T) (nI L) op fa fb fc inp out rg lo so st ps mt al dp pl pe pm) s.heap.size = A at hD hA hS ⊢
  obtain ⟨hx, hb, hml, hown, hts⟩ := id SF
  have hown : s.vm.findClass RX1 = some m.cls := hown
  have SF : CallFix p m c cX1_output 2 s _ lw_all RX1 := SF
  have hl : lv_has ls 2 [(0, .ref (a 0)), (1, .int k)] := hl
  refine lv_aload_n hx hb dX1_output_0 rfl (lv_at hl 0 rfl) ?_
  refine va_get (D := (dC, dI)) (ci := 0) (v := .ref (a 6)) (C := RX1) (T := TX1) (N := 19) hx hb hts in_X1 hown hK hP 0 rfl rfl 7 (by decide) (hts _ q33) (fun _ h9 => h9) rfl dX1_output_1 ?_
  refine lv_iload_n hx hb dX1_output_4 rfl (lv_at hl 1 rfl) ?_
  refine lv_bipush (v := 15) hx hb dX1_output_5 (by decide) ?_
  refine lv_iand hx hb dX1_output_7 ?_
  refine n_iald hx hb hK hP 6 0 rfl rfl (m16 k) (e16 k) (m16_lt k) (by decide) dX1_output_8 ?_
  exact W.iret (v := out (m16 k)) hx hb hr (fun t9 h9 hW9 => ⟨⟨_, (), rfl, rfl, by rw [h9]; exact hP, va_K.moved hW9.alike hK, hD⟩, hS.F h9⟩) hS.2.2 dX1_output_9
set_option maxHeartbeats 4000000 in
set_option maxRecDepth 100000 in
theorem mX1_isThread (l : Launch) (dC : Nat → ClassId) (dI : Nat → Nat → Nat) (a : Nat → Nat) (cI cJ : ClassId) (sz : Nat) (T L : Nat) (op fa fb fc inp out rg lo so st : Nat → Int32) (ps : Nat → Int64) (mt : Nat → Int32) (al dp : Int32) (pl pe pm : Nat → Int32) (k : Int32)  : Met l yX1_isThread (ws_ yX1_isThread cX1_isThread 2 (some .boolean)) ({ frames := 0, cells := 0, slots := 0, locals := 0 } : Room) (va_Pc [.ref (a 0), .int k] (prW dC dI (tyL cI cJ) sz (w1 a cI cJ (nI T) (nI L) op fa fb fc inp out rg lo so st ps mt al dp pl pe pm))) (va_Qi (fun (r : Int32) (_ : Unit) => r = (if ¬ k < 0 ∧ ¬ nI T ≤ k then 1 else 0)) (fun _ => poW dC dI (tyL cI cJ) (va_A (w1 a cI cJ (nI T) (nI L) op fa fb fc inp out rg lo so st ps mt al dp pl pe pm) sz) (w1 a cI cJ (nI T) (nI L) op fa fb fc inp out rg lo so st ps mt al dp pl pe pm)) (va_A (w1 a cI cJ (nI T) (nI L) op fa fb fc inp out rg lo so st ps mt al dp pl pe pm) sz)) 0 0 (va_A (w1 a cI cJ (nI T) (nI L) op fa fb fc inp out rg lo so st ps mt al dp pl pe pm) sz) := by
  refine n_met (by decide) (Nat.le_of_ble_eq_true rfl) ?_
  intro p e s m below meth c ls SF hr hlocks hnm hsz hK hP hD hA hl
  subst hsz
  have hS : va_S (va_A (w1 a cI cJ (nI T) (nI L) op fa fb fc inp out rg lo so st ps mt al dp pl pe pm) s.heap.size) s.heap s.heap [] := va_S.rf
  generalize va_A (w1 a cI cJ (nI T) (nI L) op fa fb fc inp out rg lo so st ps mt al dp pl pe pm) s.heap.size = A at hD hA hS ⊢
  obtain ⟨hx, hb, hml, hown, hts⟩ := id SF
  have hown : s.vm.findClass RX1 = some m.cls := hown
  have SF : CallFix p m c cX1_isThread 2 s _ lw_all RX1 := SF
  have hl : lv_has ls 2 [(0, .ref (a 0)), (1, .int k)] := hl
  refine lv_iload_n hx hb dX1_isThread_0 rfl (lv_at hl 1 rfl) ?_
  refine lv_if_lt (tgt := 16) hx hb dX1_isThread_1 (by decide) (fun c1 => ?_) (fun c1 => ?_)
  · refine lv_iconst (v := 0) hx hb dX1_isThread_16 (by decide) ?_
    exact W.zret (v := 0) hx hb hr rfl (fun t9 h9 hW9 => ⟨⟨_, (), rfl, (if_neg (fun q => q.1 c1)).symm, by rw [h9]; exact hP, va_K.moved hW9.alike hK, hD⟩, hS.F h9⟩) hS.2.2 dX1_isThread_17
  · refine lv_iload_n hx hb dX1_isThread_4 rfl (lv_at hl 1 rfl) ?_
    refine lv_aload_n hx hb dX1_isThread_5 rfl (lv_at hl 0 rfl) ?_
    refine va_get (D := (dC, dI)) (ci := 0) (v := .int (nI T)) (C := RX1) (T := TX1) (N := 19) hx hb hts in_X1 hown hK hP 0 rfl rfl 0 (by decide) (hts _ q26) (fun _ h9 => h9) rfl dX1_isThread_6 ?_
    refine lv_icmp_ge (tgt := 16) hx hb dX1_isThread_9 (by decide) (fun c2 => ?_) (fun c2 => ?_)
    · refine lv_iconst (v := 0) hx hb dX1_isThread_16 (by decide) ?_
      exact W.zret (v := 0) hx hb hr rfl (fun t9 h9 hW9 => ⟨⟨_, (), rfl, (if_neg (fun q => q.2 c2)).symm, by rw [h9]; exact hP, va_K.moved hW9.alike hK, hD⟩, hS.F h9⟩) hS.2.2 dX1_isThread_17
    · refine lv_iconst (v := 1) hx hb dX1_isThread_12 (by decide) ?_
      refine lv_goto (tgt := 17) hx hb dX1_isThread_13 (by decide) ?_
      exact W.zret (v := 1) hx hb hr rfl (fun t9 h9 hW9 => ⟨⟨_, (), rfl, (if_pos ⟨c1, c2⟩).symm, by rw [h9]; exact hP, va_K.moved hW9.alike hK, hD⟩, hS.F h9⟩) hS.2.2 dX1_isThread_17
set_option maxHeartbeats 4000000 in
set_option maxRecDepth 100000 in
theorem mX1_pushPart (l : Launch) (dC : Nat → ClassId) (dI : Nat → Nat → Nat) (a : Nat → Nat) (cI cJ : ClassId) (sz : Nat) (T L : Nat) (op fa fb fc inp out rg lo so st : Nat → Int32) (ps : Nat → Int64) (mt : Nat → Int32) (al : Int32) (pl pe pm : Nat → Int32) (d : Nat) (ln0 en0 mk0 : Int32) (hd : d < 32) : Met l yX1_pushPart (ws_ yX1_pushPart cX1_pushPart 4 none) ({ frames := 0, cells := 0, slots := 0, locals := 0 } : Room) (va_Pc [.ref (a 0), .int ln0, .int en0, .int mk0] (prW dC dI (tyL cI cJ) sz (w1 a cI cJ (nI T) (nI L) op fa fb fc inp out rg lo so st ps mt al (nI d) pl pe pm))) (va_Qv (fun (_ : Unit) => True) (fun _ => poW dC dI (tyL cI cJ) (va_A (w1 a cI cJ (nI T) (nI L) op fa fb fc inp out rg lo so st ps mt al (nI d) pl pe pm) sz) (w1 a cI cJ (nI T) (nI L) op fa fb fc inp out rg lo so st ps mt al (nI (d + 1)) (upd pl d ln0) (upd pe d en0) (upd pm d mk0))) (va_A (w1 a cI cJ (nI T) (nI L) op fa fb fc inp out rg lo so st ps mt al (nI d) pl pe pm) sz)) 0 0 (va_A (w1 a cI cJ (nI T) (nI L) op fa fb fc inp out rg lo so st ps mt al (nI d) pl pe pm) sz) := by
  refine n_met (by decide) (Nat.le_of_ble_eq_true rfl) ?_
  intro p e s m below meth c ls SF hr hlocks hnm hsz hK hP hD hA hl
  subst hsz
  have hS : va_S (va_A (w1 a cI cJ (nI T) (nI L) op fa fb fc inp out rg lo so st ps mt al (nI d) pl pe pm) s.heap.size) s.heap s.heap [] := va_S.rf
  generalize va_A (w1 a cI cJ (nI T) (nI L) op fa fb fc inp out rg lo so st ps mt al (nI d) pl pe pm) s.heap.size = A at hD hA hS ⊢
  obtain ⟨hx, hb, hml, hown, hts⟩ := id SF
  have hown : s.vm.findClass RX1 = some m.cls := hown
  have SF : CallFix p m c cX1_pushPart 4 s _ lw_all RX1 := SF
  have hl : lv_has ls 4 [(0, .ref (a 0)), (1, .int ln0), (2, .int en0), (3, .int mk0)] := hl
  refine lv_aload_n hx hb dX1_pushPart_0 rfl (lv_at hl 0 rfl) ?_
  refine va_get (D := (dC, dI)) (ci := 0) (v := .ref (a 13)) (C := RX1) (T := TX1) (N := 19) hx hb hts in_X1 hown hK hP 0 rfl rfl 16 (by decide) (hts _ q42) (fun _ h9 => h9) rfl dX1_pushPart_1 ?_
  refine lv_aload_n hx hb dX1_pushPart_4 rfl (lv_at hl 0 rfl) ?_
  refine va_get (D := (dC, dI)) (ci := 0) (v := .int (nI d)) (C := RX1) (T := TX1) (N := 19) hx hb hts in_X1 hown hK hP 0 rfl rfl 15 (by decide) (hts _ q41) (fun _ h9 => h9) rfl dX1_pushPart_5 ?_
  refine lv_iload_n hx hb dX1_pushPart_8 rfl (lv_at hl 1 rfl) ?_
  refine n_iast hx hb hK hP hD hS 13 0 rfl rfl d rfl (by omega) (by decide) dX1_pushPart_9 (fun H locs hP hD hS => ?_)
  have hP : va_P (dC, dI) vwCl (w1 a cI cJ (nI T) (nI L) op fa fb fc inp out rg lo so st ps mt al (nI d) (upd pl d ln0) pe pm) H := hP
  have hD : va_D A (w1 a cI cJ (nI T) (nI L) op fa fb fc inp out rg lo so st ps mt al (nI d) (upd pl d ln0) pe pm) := hD
  refine lv_aload_n hx hb dX1_pushPart_10 rfl (lv_at hl 0 rfl) ?_
  refine va_get (D := (dC, dI)) (ci := 0) (v := .ref (a 14)) (C := RX1) (T := TX1) (N := 19) hx hb hts in_X1 hown hK hP 0 rfl rfl 17 (by decide) (hts _ q43) (fun _ h9 => h9) rfl dX1_pushPart_11 ?_
  refine lv_aload_n hx hb dX1_pushPart_14 rfl (lv_at hl 0 rfl) ?_
  refine va_get (D := (dC, dI)) (ci := 0) (v := .int (nI d)) (C := RX1) (T := TX1) (N := 19) hx hb hts in_X1 hown hK hP 0 rfl rfl 15 (by decide) (hts _ q41) (fun _ h9 => h9) rfl dX1_pushPart_15 ?_
  refine lv_iload_n hx hb dX1_pushPart_18 rfl (lv_at hl 2 rfl) ?_
  refine n_iast hx hb hK hP hD hS 14 0 rfl rfl d rfl (by omega) (by decide) dX1_pushPart_19 (fun H locs hP hD hS => ?_)
  have hP : va_P (dC, dI) vwCl (w1 a cI cJ (nI T) (nI L) op fa fb fc inp out rg lo so st ps mt al (nI d) (upd pl d ln0) (upd pe d en0) pm) H := hP
  have hD : va_D A (w1 a cI cJ (nI T) (nI L) op fa fb fc inp out rg lo so st ps mt al (nI d) (upd pl d ln0) (upd pe d en0) pm) := hD
  refine lv_aload_n hx hb dX1_pushPart_20 rfl (lv_at hl 0 rfl) ?_
  refine va_get (D := (dC, dI)) (ci := 0) (v := .ref (a 15)) (C := RX1) (T := TX1) (N := 19) hx hb hts in_X1 hown hK hP 0 rfl rfl 18 (by decide) (hts _ q44) (fun _ h9 => h9) rfl dX1_pushPart_21 ?_
  refine lv_aload_n hx hb dX1_pushPart_24 rfl (lv_at hl 0 rfl) ?_
  refine va_get (D := (dC, dI)) (ci := 0) (v := .int (nI d)) (C := RX1) (T := TX1) (N := 19) hx hb hts in_X1 hown hK hP 0 rfl rfl 15 (by decide) (hts _ q41) (fun _ h9 => h9) rfl dX1_pushPart_25 ?_
  refine lv_iload_n hx hb dX1_pushPart_28 rfl (lv_at hl 3 rfl) ?_
  refine n_iast hx hb hK hP hD hS 15 0 rfl rfl d rfl (by omega) (by decide) dX1_pushPart_29 (fun H locs hP hD hS => ?_)
  have hP : va_P (dC, dI) vwCl (w1 a cI cJ (nI T) (nI L) op fa fb fc inp out rg lo so st ps mt al (nI d) (upd pl d ln0) (upd pe d en0) (upd pm d mk0)) H := hP
  have hD : va_D A (w1 a cI cJ (nI T) (nI L) op fa fb fc inp out rg lo so st ps mt al (nI d) (upd pl d ln0) (upd pe d en0) (upd pm d mk0)) := hD
  refine lv_aload_n hx hb dX1_pushPart_30 rfl (lv_at hl 0 rfl) ?_
  refine lv_dup hx hb dX1_pushPart_31 rfl ?_
  refine va_get (D := (dC, dI)) (ci := 0) (v := .int (nI d)) (C := RX1) (T := TX1) (N := 19) hx hb hts in_X1 hown hK hP 0 rfl rfl 15 (by decide) (hts _ q41) (fun _ h9 => h9) rfl dX1_pushPart_32 ?_
  refine lv_iconst (v := 1) hx hb dX1_pushPart_35 (by decide) ?_
  refine lv_iadd hx hb dX1_pushPart_36 ?_
  refine n_topi (y := nI (d + 1)) (nI_1 d) ?_
  refine va_put (D := (dC, dI)) (ci := 0) (v := .int (nI (d + 1))) (ty := .int) (C := RX1) (T := TX1) (N := 19) hx hb hts in_X1 tyX1 tyX1_ok nmX1 hown hK hP hD hS 0 rfl rfl 15 (by decide) (hts _ q41) (fun _ h9 => h9) rfl (by decide +kernel) rfl rfl (Nat.le_of_ble_eq_true rfl) dX1_pushPart_37 (fun H locs hP hD hS => ?_)
  have hP : va_P (dC, dI) vwCl (w1 a cI cJ (nI T) (nI L) op fa fb fc inp out rg lo so st ps mt al (nI (d + 1)) (upd pl d ln0) (upd pe d en0) (upd pm d mk0)) H := hP
  have hD : va_D A (w1 a cI cJ (nI T) (nI L) op fa fb fc inp out rg lo so st ps mt al (nI (d + 1)) (upd pl d ln0) (upd pe d en0) (upd pm d mk0)) := hD
  exact W.vret hx hb hr (fun t9 h9 hW9 => ⟨⟨(), rfl, trivial, by rw [h9]; exact hP, va_K.moved hW9.alike hK, hD⟩, hS.F h9⟩) hS.2.2 dX1_pushPart_40
set_option maxHeartbeats 4000000 in
set_option maxRecDepth 100000 in
theorem mX1_calculate (l : Launch) (o x y : Int32) : Met l yX1_calculate (ws_ yX1_calculate cX1_calculate 3 (some .int)) ({ frames := 0, cells := 0, slots := 0, locals := 0 } : Room) (va_Pc [.int o, .int x, .int y] (fun _ => True)) (va_Qi (fun r (_ : Unit) => r = kalk o x y) (fun _ _ => True) (fun _ => False)) 0 0 (fun _ => False) := by
  refine n_mets (by decide) (Nat.le_of_ble_eq_true rfl) ?_
  intro p e s m below meth c ls SF hr hlocks hl
  obtain ⟨hx, hb, hml, hown, hts⟩ := id SF
  have hS : va_S (fun _ => False) s.heap s.heap [] := va_S.rf
  have hl : lv_has ls 3 [(0, .int o), (1, .int x), (2, .int y)] := hl
  refine lv_iload_n hx hb dX1_calculate_0 rfl (lv_at hl 0 rfl) ?_
  refine lv_iconst (v := 1) hx hb dX1_calculate_1 (by decide) ?_
  refine lv_icmp_ne (tgt := 9) hx hb dX1_calculate_2 (by decide) (fun c1 => ?_) (fun c1 => ?_)
  · refine lv_iload_n hx hb dX1_calculate_9 rfl (lv_at hl 0 rfl) ?_
    refine lv_iconst (v := 2) hx hb dX1_calculate_10 (by decide) ?_
    refine lv_icmp_ne (tgt := 18) hx hb dX1_calculate_11 (by decide) (fun c2 => ?_) (fun c2 => ?_)
    · refine lv_iload_n hx hb dX1_calculate_18 rfl (lv_at hl 0 rfl) ?_
      refine lv_iconst (v := 3) hx hb dX1_calculate_19 (by decide) ?_
      refine lv_icmp_ne (tgt := 27) hx hb dX1_calculate_20 (by decide) (fun c3 => ?_) (fun c3 => ?_)
      · refine lv_iload_n hx hb dX1_calculate_27 rfl (lv_at hl 0 rfl) ?_
        refine lv_iconst (v := 4) hx hb dX1_calculate_28 (by decide) ?_
        refine lv_icmp_ne (tgt := 36) hx hb dX1_calculate_29 (by decide) (fun c4 => ?_) (fun c4 => ?_)
        · refine lv_iload_n hx hb dX1_calculate_36 rfl (lv_at hl 1 rfl) ?_
          refine lv_iload_n hx hb dX1_calculate_37 rfl (lv_at hl 2 rfl) ?_
          refine lv_icmp_ge (tgt := 45) hx hb dX1_calculate_38 (by decide) (fun c5 => ?_) (fun c5 => ?_)
          · refine lv_iconst (v := 0) hx hb dX1_calculate_45 (by decide) ?_
            exact W.iret (v := 0) hx hb hr (fun t ht hW => ⟨⟨_, (), rfl, by show _ = kalk o x y; unfold kalk; rw [if_neg c1, if_neg c2, if_neg c3, if_neg c4, if_neg (Int32.not_lt.mpr c5)], trivial⟩, hS.F ht⟩) hS.2.2 dX1_calculate_46
          · refine lv_iconst (v := 1) hx hb dX1_calculate_41 (by decide) ?_
            refine lv_goto (tgt := 46) hx hb dX1_calculate_42 (by decide) ?_
            exact W.iret (v := 1) hx hb hr (fun t ht hW => ⟨⟨_, (), rfl, by show _ = kalk o x y; unfold kalk; rw [if_neg c1, if_neg c2, if_neg c3, if_neg c4, if_pos (Int32.not_le.mp c5)], trivial⟩, hS.F ht⟩) hS.2.2 dX1_calculate_46
        · refine lv_iload_n hx hb dX1_calculate_32 rfl (lv_at hl 1 rfl) ?_
          refine lv_iload_n hx hb dX1_calculate_33 rfl (lv_at hl 2 rfl) ?_
          refine lv_iand hx hb dX1_calculate_34 ?_
          exact W.iret (v := x &&& y) hx hb hr (fun t ht hW => ⟨⟨_, (), rfl, by show _ = kalk o x y; unfold kalk; rw [if_neg c1, if_neg c2, if_neg c3, if_pos c4], trivial⟩, hS.F ht⟩) hS.2.2 dX1_calculate_35
      · refine lv_iload_n hx hb dX1_calculate_23 rfl (lv_at hl 1 rfl) ?_
        refine lv_iload_n hx hb dX1_calculate_24 rfl (lv_at hl 2 rfl) ?_
        refine lv_imul hx hb dX1_calculate_25 ?_
        exact W.iret (v := x * y) hx hb hr (fun t ht hW => ⟨⟨_, (), rfl, by show _ = kalk o x y; unfold kalk; rw [if_neg c1, if_neg c2, if_pos c3], trivial⟩, hS.F ht⟩) hS.2.2 dX1_calculate_26
    · refine lv_iload_n hx hb dX1_calculate_14 rfl (lv_at hl 1 rfl) ?_
      refine lv_iload_n hx hb dX1_calculate_15 rfl (lv_at hl 2 rfl) ?_
      refine lv_isub hx hb dX1_calculate_16 ?_
      exact W.iret (v := x - y) hx hb hr (fun t ht hW => ⟨⟨_, (), rfl, by show _ = kalk o x y; unfold kalk; rw [if_neg c1, if_pos c2], trivial⟩, hS.F ht⟩) hS.2.2 dX1_calculate_17
  · refine lv_iload_n hx hb dX1_calculate_5 rfl (lv_at hl 1 rfl) ?_
    refine lv_iload_n hx hb dX1_calculate_6 rfl (lv_at hl 2 rfl) ?_
    refine lv_iadd hx hb dX1_calculate_7 ?_
    exact W.iret (v := x + y) hx hb hr (fun t ht hW => ⟨⟨_, (), rfl, by show _ = kalk o x y; unfold kalk; rw [if_pos c1], trivial⟩, hS.F ht⟩) hS.2.2 dX1_calculate_8
set_option maxHeartbeats 4000000 in
set_option maxRecDepth 100000 in
theorem mX2_worked (l : Launch) (o x y : Int32) : Met l yX2_worked (ws_ yX2_worked cX2_worked 3 (some .int)) ({ frames := 0, cells := 0, slots := 0, locals := 0 } : Room) (va_Pc [.int o, .int x, .int y] (fun _ => True)) (va_Qi (fun r (_ : Unit) => r = kalk o x y) (fun _ _ => True) (fun _ => False)) 0 0 (fun _ => False) := by
  refine n_mets (by decide) (Nat.le_of_ble_eq_true rfl) ?_
  intro p e s m below meth c ls SF hr hlocks hl
  obtain ⟨hx, hb, hml, hown, hts⟩ := id SF
  have hS : va_S (fun _ => False) s.heap s.heap [] := va_S.rf
  have hl : lv_has ls 3 [(0, .int o), (1, .int x), (2, .int y)] := hl
  refine lv_iload_n hx hb dX2_worked_0 rfl (lv_at hl 0 rfl) ?_
  refine lv_iconst (v := 1) hx hb dX2_worked_1 (by decide) ?_
  refine lv_icmp_ne (tgt := 9) hx hb dX2_worked_2 (by decide) (fun c1 => ?_) (fun c1 => ?_)
  · refine lv_iload_n hx hb dX2_worked_9 rfl (lv_at hl 0 rfl) ?_
    refine lv_iconst (v := 2) hx hb dX2_worked_10 (by decide) ?_
    refine lv_icmp_ne (tgt := 18) hx hb dX2_worked_11 (by decide) (fun c2 => ?_) (fun c2 => ?_)
    · refine lv_iload_n hx hb dX2_worked_18 rfl (lv_at hl 0 rfl) ?_
      refine lv_iconst (v := 3) hx hb dX2_worked_19 (by decide) ?_
      refine lv_icmp_ne (tgt := 27) hx hb dX2_worked_20 (by decide) (fun c3 => ?_) (fun c3 => ?_)
      · refine lv_iload_n hx hb dX2_worked_27 rfl (lv_at hl 0 rfl) ?_
        refine lv_iconst (v := 4) hx hb dX2_worked_28 (by decide) ?_
        refine lv_icmp_ne (tgt := 36) hx hb dX2_worked_29 (by decide) (fun c4 => ?_) (fun c4 => ?_)
        · refine lv_iload_n hx hb dX2_worked_36 rfl (lv_at hl 1 rfl) ?_
          refine lv_iload_n hx hb dX2_worked_37 rfl (lv_at hl 2 rfl) ?_
          refine lv_icmp_ge (tgt := 45) hx hb dX2_worked_38 (by decide) (fun c5 => ?_) (fun c5 => ?_)
          · refine lv_iconst (v := 0) hx hb dX2_worked_45 (by decide) ?_
            exact W.iret (v := 0) hx hb hr (fun t ht hW => ⟨⟨_, (), rfl, by show _ = kalk o x y; unfold kalk; rw [if_neg c1, if_neg c2, if_neg c3, if_neg c4, if_neg (Int32.not_lt.mpr c5)], trivial⟩, hS.F ht⟩) hS.2.2 dX2_worked_46
          · refine lv_iconst (v := 1) hx hb dX2_worked_41 (by decide) ?_
            refine lv_goto (tgt := 46) hx hb dX2_worked_42 (by decide) ?_
            exact W.iret (v := 1) hx hb hr (fun t ht hW => ⟨⟨_, (), rfl, by show _ = kalk o x y; unfold kalk; rw [if_neg c1, if_neg c2, if_neg c3, if_neg c4, if_pos (Int32.not_le.mp c5)], trivial⟩, hS.F ht⟩) hS.2.2 dX2_worked_46
        · refine lv_iload_n hx hb dX2_worked_32 rfl (lv_at hl 1 rfl) ?_
          refine lv_iload_n hx hb dX2_worked_33 rfl (lv_at hl 2 rfl) ?_
          refine lv_iand hx hb dX2_worked_34 ?_
          exact W.iret (v := x &&& y) hx hb hr (fun t ht hW => ⟨⟨_, (), rfl, by show _ = kalk o x y; unfold kalk; rw [if_neg c1, if_neg c2, if_neg c3, if_pos c4], trivial⟩, hS.F ht⟩) hS.2.2 dX2_worked_35
      · refine lv_iload_n hx hb dX2_worked_23 rfl (lv_at hl 1 rfl) ?_
        refine lv_iload_n hx hb dX2_worked_24 rfl (lv_at hl 2 rfl) ?_
        refine lv_imul hx hb dX2_worked_25 ?_
        exact W.iret (v := x * y) hx hb hr (fun t ht hW => ⟨⟨_, (), rfl, by show _ = kalk o x y; unfold kalk; rw [if_neg c1, if_neg c2, if_pos c3], trivial⟩, hS.F ht⟩) hS.2.2 dX2_worked_26
    · refine lv_iload_n hx hb dX2_worked_14 rfl (lv_at hl 1 rfl) ?_
      refine lv_iload_n hx hb dX2_worked_15 rfl (lv_at hl 2 rfl) ?_
      refine lv_isub hx hb dX2_worked_16 ?_
      exact W.iret (v := x - y) hx hb hr (fun t ht hW => ⟨⟨_, (), rfl, by show _ = kalk o x y; unfold kalk; rw [if_neg c1, if_pos c2], trivial⟩, hS.F ht⟩) hS.2.2 dX2_worked_17
  · refine lv_iload_n hx hb dX2_worked_5 rfl (lv_at hl 1 rfl) ?_
    refine lv_iload_n hx hb dX2_worked_6 rfl (lv_at hl 2 rfl) ?_
    refine lv_iadd hx hb dX2_worked_7 ?_
    exact W.iret (v := x + y) hx hb hr (fun t ht hW => ⟨⟨_, (), rfl, by show _ = kalk o x y; unfold kalk; rw [if_pos c1], trivial⟩, hS.F ht⟩) hS.2.2 dX2_worked_8
end
section
/-! contracts: emit, the getters, endThreads, reset of WarpMachine -/
/-- what emit(o, x, y, z) answers and leaves: lines and the four fields of the program -/
def emR (L : Nat) (op fa fb fc : Nat → Int32) (o x y z r : Int32) (u : Nat × (Nat → Int32) × (Nat → Int32) × (Nat → Int32) × (Nat → Int32)) : Prop := if o < 0 ∨ 11 < o ∨ ¬ L < 32 then r = -1 ∧ u = (L, op, fa, fb, fc) else r = nI (L + 1) ∧ u = (L + 1, upd op L o, upd fa L x, upd fb L y, upd fc L z)
set_option maxHeartbeats 4000000 in
set_option maxRecDepth 100000 in
theorem mX1_emit (l : Launch) (dC : Nat → ClassId) (dI : Nat → Nat → Nat) (a : Nat → Nat) (cI cJ : ClassId) (sz : Nat) (T L : Nat) (op fa fb fc inp out rg lo so st : Nat → Int32) (ps : Nat → Int64) (mt : Nat → Int32) (al dp : Int32) (pl pe pm : Nat → Int32) (o x y z : Int32) (hL : L ≤ 32) : Met l yX1_emit (ws_ yX1_emit cX1_emit 5 (some .int)) ({ frames := 0, cells := 0, slots := 0, locals := 0 } : Room) (va_Pc [.ref (a 0), .int o, .int x, .int y, .int z] (prW dC dI (tyL cI cJ) sz (w1 a cI cJ (nI T) (nI L) op fa fb fc inp out rg lo so st ps mt al dp pl pe pm))) (va_Qi (fun (r : Int32) u => emR L op fa fb fc o x y z r u) (fun u => poW dC dI (tyL cI cJ) (va_A (w1 a cI cJ (nI T) (nI L) op fa fb fc inp out rg lo so st ps mt al dp pl pe pm) sz) (w1 a cI cJ (nI T) (nI u.1) u.2.1 u.2.2.1 u.2.2.2.1 u.2.2.2.2 inp out rg lo so st ps mt al dp pl pe pm)) (va_A (w1 a cI cJ (nI T) (nI L) op fa fb fc inp out rg lo so st ps mt al dp pl pe pm) sz)) 0 0 (va_A (w1 a cI cJ (nI T) (nI L) op fa fb fc inp out rg lo so st ps mt al dp pl pe pm) sz) := by
  refine n_met (by decide) (Nat.le_of_ble_eq_true rfl) ?_
  intro p e s m below meth c ls SF hr hlocks hnm hsz hK hP hD hA hl
  subst hsz
  have hS : va_S (va_A (w1 a cI cJ (nI T) (nI L) op fa fb fc inp out rg lo so st ps mt al dp pl pe pm) s.heap.size) s.heap s.heap [] := va_S.rf
  generalize va_A (w1 a cI cJ (nI T) (nI L) op fa fb fc inp out rg lo so st ps mt al dp pl pe pm) s.heap.size = A at hD hA hS ⊢
  obtain ⟨hx, hb, hml, hown, hts⟩ := id SF
  have hown : s.vm.findClass RX1 = some m.cls := hown
  have SF : CallFix p m c cX1_emit 5 s _ lw_all RX1 := SF
  have hl : lv_has ls 5 [(0, .ref (a 0)), (1, .int o), (2, .int x), (3, .int y), (4, .int z)] := hl
  refine lv_iload_n hx hb dX1_emit_0 rfl (lv_at hl 1 rfl) ?_
  refine lv_if_lt (tgt := 19) hx hb dX1_emit_1 (by decide) (fun c1 => ?_) (fun c1 => ?_)
  · refine lv_iconst (v := (-1)) hx hb dX1_emit_19 (by decide) ?_
    exact W.iret (v := (-1)) hx hb hr (fun t9 h9 hW9 => ⟨⟨_, (L, op, fa, fb, fc), rfl, by show emR L op fa fb fc o x y z _ _; unfold emR; rw [if_pos (Or.inl c1)]; exact ⟨rfl, rfl⟩, by rw [h9]; exact hP, va_K.moved hW9.alike hK, hD⟩, hS.F h9⟩) hS.2.2 dX1_emit_20
  · refine lv_iload_n hx hb dX1_emit_4 rfl (lv_at hl 1 rfl) ?_
    refine lv_bipush (v := 11) hx hb dX1_emit_5 (by decide) ?_
    refine lv_icmp_gt (tgt := 19) hx hb dX1_emit_7 (by decide) (fun c2 => ?_) (fun c2 => ?_)
    · refine lv_iconst (v := (-1)) hx hb dX1_emit_19 (by decide) ?_
      exact W.iret (v := (-1)) hx hb hr (fun t9 h9 hW9 => ⟨⟨_, (L, op, fa, fb, fc), rfl, by show emR L op fa fb fc o x y z _ _; unfold emR; rw [if_pos (Or.inr (Or.inl c2))]; exact ⟨rfl, rfl⟩, by rw [h9]; exact hP, va_K.moved hW9.alike hK, hD⟩, hS.F h9⟩) hS.2.2 dX1_emit_20
    · refine lv_aload_n hx hb dX1_emit_10 rfl (lv_at hl 0 rfl) ?_
      refine va_get (D := (dC, dI)) (ci := 0) (v := .int (nI L)) (C := RX1) (T := TX1) (N := 19) hx hb hts in_X1 hown hK hP 0 rfl rfl 1 (by decide) (hts _ q27) (fun _ h9 => h9) rfl dX1_emit_11 ?_
      refine lv_bipush (v := 32) hx hb dX1_emit_14 (by decide) ?_
      refine lv_icmp_lt (tgt := 21) hx hb dX1_emit_16 (by decide) (fun c3 => ?_) (fun c3 => ?_)
      · have hl32 : L < 32 := (nI_ltI (by omega) (by decide)).mp (show nI L < nI 32 from c3)
        refine lv_aload_n hx hb dX1_emit_21 rfl (lv_at hl 0 rfl) ?_
        refine va_get (D := (dC, dI)) (ci := 0) (v := .ref (a 1)) (C := RX1) (T := TX1) (N := 19) hx hb hts in_X1 hown hK hP 0 rfl rfl 2 (by decide) (hts _ q28) (fun _ h9 => h9) rfl dX1_emit_22 ?_
        refine lv_aload_n hx hb dX1_emit_25 rfl (lv_at hl 0 rfl) ?_
        refine va_get (D := (dC, dI)) (ci := 0) (v := .int (nI L)) (C := RX1) (T := TX1) (N := 19) hx hb hts in_X1 hown hK hP 0 rfl rfl 1 (by decide) (hts _ q27) (fun _ h9 => h9) rfl dX1_emit_26 ?_
        refine lv_iload_n hx hb dX1_emit_29 rfl (lv_at hl 1 rfl) ?_
        refine n_iast hx hb hK hP hD hS 1 0 rfl rfl L rfl (by omega) (by decide) dX1_emit_30 (fun H locs hP hD hS => ?_)
        have hP : va_P (dC, dI) vwCl (w1 a cI cJ (nI T) (nI L) (upd op L o) fa fb fc inp out rg lo so st ps mt al dp pl pe pm) H := hP
        have hD : va_D A (w1 a cI cJ (nI T) (nI L) (upd op L o) fa fb fc inp out rg lo so st ps mt al dp pl pe pm) := hD
        refine lv_aload_n hx hb dX1_emit_31 rfl (lv_at hl 0 rfl) ?_
        refine va_get (D := (dC, dI)) (ci := 0) (v := .ref (a 2)) (C := RX1) (T := TX1) (N := 19) hx hb hts in_X1 hown hK hP 0 rfl rfl 3 (by decide) (hts _ q29) (fun _ h9 => h9) rfl dX1_emit_32 ?_
        refine lv_aload_n hx hb dX1_emit_35 rfl (lv_at hl 0 rfl) ?_
        refine va_get (D := (dC, dI)) (ci := 0) (v := .int (nI L)) (C := RX1) (T := TX1) (N := 19) hx hb hts in_X1 hown hK hP 0 rfl rfl 1 (by decide) (hts _ q27) (fun _ h9 => h9) rfl dX1_emit_36 ?_
        refine lv_iload_n hx hb dX1_emit_39 rfl (lv_at hl 2 rfl) ?_
        refine n_iast hx hb hK hP hD hS 2 0 rfl rfl L rfl (by omega) (by decide) dX1_emit_40 (fun H locs hP hD hS => ?_)
        have hP : va_P (dC, dI) vwCl (w1 a cI cJ (nI T) (nI L) (upd op L o) (upd fa L x) fb fc inp out rg lo so st ps mt al dp pl pe pm) H := hP
        have hD : va_D A (w1 a cI cJ (nI T) (nI L) (upd op L o) (upd fa L x) fb fc inp out rg lo so st ps mt al dp pl pe pm) := hD
        refine lv_aload_n hx hb dX1_emit_41 rfl (lv_at hl 0 rfl) ?_
        refine va_get (D := (dC, dI)) (ci := 0) (v := .ref (a 3)) (C := RX1) (T := TX1) (N := 19) hx hb hts in_X1 hown hK hP 0 rfl rfl 4 (by decide) (hts _ q30) (fun _ h9 => h9) rfl dX1_emit_42 ?_
        refine lv_aload_n hx hb dX1_emit_45 rfl (lv_at hl 0 rfl) ?_
        refine va_get (D := (dC, dI)) (ci := 0) (v := .int (nI L)) (C := RX1) (T := TX1) (N := 19) hx hb hts in_X1 hown hK hP 0 rfl rfl 1 (by decide) (hts _ q27) (fun _ h9 => h9) rfl dX1_emit_46 ?_
        refine lv_iload_n hx hb dX1_emit_49 rfl (lv_at hl 3 rfl) ?_
        refine n_iast hx hb hK hP hD hS 3 0 rfl rfl L rfl (by omega) (by decide) dX1_emit_50 (fun H locs hP hD hS => ?_)
        have hP : va_P (dC, dI) vwCl (w1 a cI cJ (nI T) (nI L) (upd op L o) (upd fa L x) (upd fb L y) fc inp out rg lo so st ps mt al dp pl pe pm) H := hP
        have hD : va_D A (w1 a cI cJ (nI T) (nI L) (upd op L o) (upd fa L x) (upd fb L y) fc inp out rg lo so st ps mt al dp pl pe pm) := hD
        refine lv_aload_n hx hb dX1_emit_51 rfl (lv_at hl 0 rfl) ?_
        refine va_get (D := (dC, dI)) (ci := 0) (v := .ref (a 4)) (C := RX1) (T := TX1) (N := 19) hx hb hts in_X1 hown hK hP 0 rfl rfl 5 (by decide) (hts _ q31) (fun _ h9 => h9) rfl dX1_emit_52 ?_
        refine lv_aload_n hx hb dX1_emit_55 rfl (lv_at hl 0 rfl) ?_
        refine va_get (D := (dC, dI)) (ci := 0) (v := .int (nI L)) (C := RX1) (T := TX1) (N := 19) hx hb hts in_X1 hown hK hP 0 rfl rfl 1 (by decide) (hts _ q27) (fun _ h9 => h9) rfl dX1_emit_56 ?_
        refine lv_iload hx hb dX1_emit_59 (lv_at hl 4 rfl) ?_
        refine n_iast hx hb hK hP hD hS 4 0 rfl rfl L rfl (by omega) (by decide) dX1_emit_61 (fun H locs hP hD hS => ?_)
        have hP : va_P (dC, dI) vwCl (w1 a cI cJ (nI T) (nI L) (upd op L o) (upd fa L x) (upd fb L y) (upd fc L z) inp out rg lo so st ps mt al dp pl pe pm) H := hP
        have hD : va_D A (w1 a cI cJ (nI T) (nI L) (upd op L o) (upd fa L x) (upd fb L y) (upd fc L z) inp out rg lo so st ps mt al dp pl pe pm) := hD
        refine lv_aload_n hx hb dX1_emit_62 rfl (lv_at hl 0 rfl) ?_
        refine lv_dup hx hb dX1_emit_63 rfl ?_
        refine va_get (D := (dC, dI)) (ci := 0) (v := .int (nI L)) (C := RX1) (T := TX1) (N := 19) hx hb hts in_X1 hown hK hP 0 rfl rfl 1 (by decide) (hts _ q27) (fun _ h9 => h9) rfl dX1_emit_64 ?_
        refine lv_iconst (v := 1) hx hb dX1_emit_67 (by decide) ?_
        refine lv_iadd hx hb dX1_emit_68 ?_
        refine n_topi (y := nI (L + 1)) (nI_1 L) ?_
        refine va_put (D := (dC, dI)) (ci := 0) (v := .int (nI (L + 1))) (ty := .int) (C := RX1) (T := TX1) (N := 19) hx hb hts in_X1 tyX1 tyX1_ok nmX1 hown hK hP hD hS 0 rfl rfl 1 (by decide) (hts _ q27) (fun _ h9 => h9) rfl (by decide +kernel) rfl rfl (Nat.le_of_ble_eq_true rfl) dX1_emit_69 (fun H locs hP hD hS => ?_)
        have hP : va_P (dC, dI) vwCl (w1 a cI cJ (nI T) (nI (L + 1)) (upd op L o) (upd fa L x) (upd fb L y) (upd fc L z) inp out rg lo so st ps mt al dp pl pe pm) H := hP
        have hD : va_D A (w1 a cI cJ (nI T) (nI (L + 1)) (upd op L o) (upd fa L x) (upd fb L y) (upd fc L z) inp out rg lo so st ps mt al dp pl pe pm) := hD
        refine lv_aload_n hx hb dX1_emit_72 rfl (lv_at hl 0 rfl) ?_
        refine va_get (D := (dC, dI)) (ci := 0) (v := .int (nI (L + 1))) (C := RX1) (T := TX1) (N := 19) hx hb hts in_X1 hown hK hP 0 rfl rfl 1 (by decide) (hts _ q27) (fun _ h9 => h9) rfl dX1_emit_73 ?_
        exact W.iret (v := nI (L + 1)) hx hb hr (fun t9 h9 hW9 => ⟨⟨_, (L + 1, upd op L o, upd fa L x, upd fb L y, upd fc L z), rfl, by show emR L op fa fb fc o x y z _ _; unfold emR; rw [if_neg (fun q => q.elim c1 (fun q => q.elim c2 (fun q => q hl32)))]; exact ⟨rfl, rfl⟩, by rw [h9]; exact hP, va_K.moved hW9.alike hK, hD⟩, hS.F h9⟩) hS.2.2 dX1_emit_76
      · refine lv_iconst (v := (-1)) hx hb dX1_emit_19 (by decide) ?_
        exact W.iret (v := (-1)) hx hb hr (fun t9 h9 hW9 => ⟨⟨_, (L, op, fa, fb, fc), rfl, by show emR L op fa fb fc o x y z _ _; unfold emR; rw [if_pos (Or.inr (Or.inr (fun q => c3 (show nI L < nI 32 from (nI_ltI (by omega) (by decide)).mpr q))))]; exact ⟨rfl, rfl⟩, by rw [h9]; exact hP, va_K.moved hW9.alike hK, hD⟩, hS.F h9⟩) hS.2.2 dX1_emit_20
set_option maxHeartbeats 4000000 in
set_option maxRecDepth 100000 in
theorem mX1_reg (l : Launch) (dC : Nat → ClassId) (dI : Nat → Nat → Nat) (a : Nat → Nat) (cI cJ : ClassId) (sz : Nat) (T L : Nat) (op fa fb fc inp out rg lo so st : Nat → Int32) (ps : Nat → Int64) (mt : Nat → Int32) (al dp : Int32) (pl pe pm : Nat → Int32) (k i : Int32) (hT : T ≤ 8) : Met l yX1_reg (ws_ yX1_reg cX1_reg 3 (some .int)) ({ frames := 1, cells := 0, slots := 0, locals := 21 } : Room) (va_Pc [.ref (a 0), .int k, .int i] (prW dC dI (tyL cI cJ) sz (w1 a cI cJ (nI T) (nI L) op fa fb fc inp out rg lo so st ps mt al dp pl pe pm))) (va_Qi (fun (r : Int32) (_ : Unit) => r = (if ¬ k < 0 ∧ ¬ nI T ≤ k then rg (4 * k.toNatClampNeg + m4 i) else 0)) (fun _ => poW dC dI (tyL cI cJ) (va_A (w1 a cI cJ (nI T) (nI L) op fa fb fc inp out rg lo so st ps mt al dp pl pe pm) sz) (w1 a cI cJ (nI T) (nI L) op fa fb fc inp out rg lo so st ps mt al dp pl pe pm)) (va_A (w1 a cI cJ (nI T) (nI L) op fa fb fc inp out rg lo so st ps mt al dp pl pe pm) sz)) 0 0 (va_A (w1 a cI cJ (nI T) (nI L) op fa fb fc inp out rg lo so st ps mt al dp pl pe pm) sz) := by
  refine n_met (by decide) (Nat.le_of_ble_eq_true rfl) ?_
  intro p e s m below meth c ls SF hr hlocks hnm hsz hK hP hD hA hl
  subst hsz
  have hS : va_S (va_A (w1 a cI cJ (nI T) (nI L) op fa fb fc inp out rg lo so st ps mt al dp pl pe pm) s.heap.size) s.heap s.heap [] := va_S.rf
  generalize va_A (w1 a cI cJ (nI T) (nI L) op fa fb fc inp out rg lo so st ps mt al dp pl pe pm) s.heap.size = A at hD hA hS ⊢
  obtain ⟨hx, hb, hml, hown, hts⟩ := id SF
  have hown : s.vm.findClass RX1 = some m.cls := hown
  have SF : CallFix p m c cX1_reg 3 s _ lw_all RX1 := SF
  have hl : lv_has ls 3 [(0, .ref (a 0)), (1, .int k), (2, .int i)] := hl
  refine lv_aload_n hx hb dX1_reg_0 rfl (lv_at hl 0 rfl) ?_
  refine lv_iload_n hx hb dX1_reg_1 rfl (lv_at hl 1 rfl) ?_
  refine n_calli (As := [.int k]) (rest := []) SF (mX1_isThread l dC dI a cI cJ _ T L op fa fb fc inp out rg lo so st ps mt al dp pl pe pm k) (cwV 1 hts (lw_V q154 q156 qs11 q16 q157) rfl rfl rfl (by decide +kernel) ⟨Nat.le_of_ble_eq_true rfl, Nat.le_of_ble_eq_true rfl⟩) hK hP hD hS hA 0 0 rfl rfl rfl rfl hl.1 rfl (Nat.le_of_ble_eq_true rfl) dX1_reg_2 ⟨Nat.le_of_ble_eq_true rfl, Nat.le_of_ble_eq_true rfl⟩ (fun r u H locs er hP hD hS => ?_)
  refine lv_if_eq (tgt := 23) hx hb dX1_reg_5 (by decide) (fun c1 => ?_) (fun c1 => ?_)
  · have hn : ¬ (¬ k < 0 ∧ ¬ nI T ≤ k) := fun q => by rw [if_pos q] at er; rw [er] at c1; exact absurd c1 (by decide)
    refine lv_iconst (v := 0) hx hb dX1_reg_23 (by decide) ?_
    exact W.iret (v := 0) hx hb hr (fun t9 h9 hW9 => ⟨⟨_, (), rfl, (if_neg hn).symm, by rw [h9]; exact hP, va_K.moved hW9.alike hK, hD⟩, hS.F h9⟩) hS.2.2 dX1_reg_24
  · have hy : ¬ k < 0 ∧ ¬ nI T ≤ k := Classical.byContradiction fun q => by rw [if_neg q] at er; exact c1 er
    obtain ⟨j, hj, rfl⟩ : ∃ j : Nat, j < T ∧ k = nI j := by rcases pk_ix k (n := T) (by omega) with q | q | q; exact absurd q hy.1; exact absurd q hy.2; exact q
    refine lv_aload_n hx hb dX1_reg_8 rfl (lv_at hl 0 rfl) ?_
    refine va_get (D := (dC, dI)) (ci := 0) (v := .ref (a 7)) (C := RX1) (T := TX1) (N := 19) hx hb hts in_X1 hown hK hP 0 rfl rfl 8 (by decide) (hts _ q34) (fun _ h9 => h9) rfl dX1_reg_9 ?_
    refine lv_iconst (v := 4) hx hb dX1_reg_12 (by decide) ?_
    refine lv_iload_n hx hb dX1_reg_13 rfl (lv_at hl 1 rfl) ?_
    refine lv_imul hx hb dX1_reg_14 ?_
    refine lv_iload_n hx hb dX1_reg_15 rfl (lv_at hl 2 rfl) ?_
    refine lv_iconst (v := 3) hx hb dX1_reg_16 (by decide) ?_
    refine lv_iand hx hb dX1_reg_17 ?_
    refine lv_iadd hx hb dX1_reg_18 ?_
    refine n_iald hx hb hK hP 7 0 rfl rfl (4 * j + m4 i) (i4 j i) (by have := m4_lt i; omega) (by decide) dX1_reg_19 ?_
    refine lv_goto (tgt := 24) hx hb dX1_reg_20 (by decide) ?_
    exact W.iret (v := rg (4 * j + m4 i)) hx hb hr (fun t9 h9 hW9 => ⟨⟨_, (), rfl, by show _ = ite _ _ _; rw [if_pos hy, nI_clamp (by omega)], by rw [h9]; exact hP, va_K.moved hW9.alike hK, hD⟩, hS.F h9⟩) hS.2.2 dX1_reg_24
set_option maxHeartbeats 4000000 in
set_option maxRecDepth 100000 in
theorem mX1_line (l : Launch) (dC : Nat → ClassId) (dI : Nat → Nat → Nat) (a : Nat → Nat) (cI cJ : ClassId) (sz : Nat) (T L : Nat) (op fa fb fc inp out rg lo so st : Nat → Int32) (ps : Nat → Int64) (mt : Nat → Int32) (al dp : Int32) (pl pe pm : Nat → Int32) (k : Int32) (hT : T ≤ 8) : Met l yX1_line (ws_ yX1_line cX1_line 2 (some .int)) ({ frames := 1, cells := 0, slots := 0, locals := 21 } : Room) (va_Pc [.ref (a 0), .int k] (prW dC dI (tyL cI cJ) sz (w1 a cI cJ (nI T) (nI L) op fa fb fc inp out rg lo so st ps mt al dp pl pe pm))) (va_Qi (fun (r : Int32) (_ : Unit) => r = (if ¬ k < 0 ∧ ¬ nI T ≤ k then lo k.toNatClampNeg else (-1))) (fun _ => poW dC dI (tyL cI cJ) (va_A (w1 a cI cJ (nI T) (nI L) op fa fb fc inp out rg lo so st ps mt al dp pl pe pm) sz) (w1 a cI cJ (nI T) (nI L) op fa fb fc inp out rg lo so st ps mt al dp pl pe pm)) (va_A (w1 a cI cJ (nI T) (nI L) op fa fb fc inp out rg lo so st ps mt al dp pl pe pm) sz)) 0 0 (va_A (w1 a cI cJ (nI T) (nI L) op fa fb fc inp out rg lo so st ps mt al dp pl pe pm) sz) := by
  refine n_met (by decide) (Nat.le_of_ble_eq_true rfl) ?_
  intro p e s m below meth c ls SF hr hlocks hnm hsz hK hP hD hA hl
  subst hsz
  have hS : va_S (va_A (w1 a cI cJ (nI T) (nI L) op fa fb fc inp out rg lo so st ps mt al dp pl pe pm) s.heap.size) s.heap s.heap [] := va_S.rf
  generalize va_A (w1 a cI cJ (nI T) (nI L) op fa fb fc inp out rg lo so st ps mt al dp pl pe pm) s.heap.size = A at hD hA hS ⊢
  obtain ⟨hx, hb, hml, hown, hts⟩ := id SF
  have hown : s.vm.findClass RX1 = some m.cls := hown
  have SF : CallFix p m c cX1_line 2 s _ lw_all RX1 := SF
  have hl : lv_has ls 2 [(0, .ref (a 0)), (1, .int k)] := hl
  refine lv_aload_n hx hb dX1_line_0 rfl (lv_at hl 0 rfl) ?_
  refine lv_iload_n hx hb dX1_line_1 rfl (lv_at hl 1 rfl) ?_
  refine n_calli (As := [.int k]) (rest := []) SF (mX1_isThread l dC dI a cI cJ _ T L op fa fb fc inp out rg lo so st ps mt al dp pl pe pm k) (cwV 1 hts (lw_V q154 q156 qs11 q16 q157) rfl rfl rfl (by decide +kernel) ⟨Nat.le_of_ble_eq_true rfl, Nat.le_of_ble_eq_true rfl⟩) hK hP hD hS hA 0 0 rfl rfl rfl rfl hl.1 rfl (Nat.le_of_ble_eq_true rfl) dX1_line_2 ⟨Nat.le_of_ble_eq_true rfl, Nat.le_of_ble_eq_true rfl⟩ (fun r u H locs er hP hD hS => ?_)
  refine lv_if_eq (tgt := 17) hx hb dX1_line_5 (by decide) (fun c1 => ?_) (fun c1 => ?_)
  · have hn : ¬ (¬ k < 0 ∧ ¬ nI T ≤ k) := fun q => by rw [if_pos q] at er; rw [er] at c1; exact absurd c1 (by decide)
    refine lv_iconst (v := (-1)) hx hb dX1_line_17 (by decide) ?_
    exact W.iret (v := (-1)) hx hb hr (fun t9 h9 hW9 => ⟨⟨_, (), rfl, (if_neg hn).symm, by rw [h9]; exact hP, va_K.moved hW9.alike hK, hD⟩, hS.F h9⟩) hS.2.2 dX1_line_18
  · have hy : ¬ k < 0 ∧ ¬ nI T ≤ k := Classical.byContradiction fun q => by rw [if_neg q] at er; exact c1 er
    obtain ⟨j, hj, rfl⟩ : ∃ j : Nat, j < T ∧ k = nI j := by rcases pk_ix k (n := T) (by omega) with q | q | q; exact absurd q hy.1; exact absurd q hy.2; exact q
    refine lv_aload_n hx hb dX1_line_8 rfl (lv_at hl 0 rfl) ?_
    refine va_get (D := (dC, dI)) (ci := 0) (v := .ref (a 8)) (C := RX1) (T := TX1) (N := 19) hx hb hts in_X1 hown hK hP 0 rfl rfl 9 (by decide) (hts _ q35) (fun _ h9 => h9) rfl dX1_line_9 ?_
    refine lv_iload_n hx hb dX1_line_12 rfl (lv_at hl 1 rfl) ?_
    refine n_iald hx hb hK hP 8 0 rfl rfl j rfl (by omega) (by decide) dX1_line_13 ?_
    refine lv_goto (tgt := 18) hx hb dX1_line_14 (by decide) ?_
    exact W.iret (v := lo j) hx hb hr (fun t9 h9 hW9 => ⟨⟨_, (), rfl, by show _ = ite _ _ _; rw [if_pos hy, nI_clamp (by omega)], by rw [h9]; exact hP, va_K.moved hW9.alike hK, hD⟩, hS.F h9⟩) hS.2.2 dX1_line_18
set_option maxHeartbeats 4000000 in
set_option maxRecDepth 100000 in
theorem mX1_steps (l : Launch) (dC : Nat → ClassId) (dI : Nat → Nat → Nat) (a : Nat → Nat) (cI cJ : ClassId) (sz : Nat) (T L : Nat) (op fa fb fc inp out rg lo so st : Nat → Int32) (ps : Nat → Int64) (mt : Nat → Int32) (al dp : Int32) (pl pe pm : Nat → Int32) (k : Int32) (hT : T ≤ 8) : Met l yX1_steps (ws_ yX1_steps cX1_steps 2 (some .int)) ({ frames := 1, cells := 0, slots := 0, locals := 21 } : Room) (va_Pc [.ref (a 0), .int k] (prW dC dI (tyL cI cJ) sz (w1 a cI cJ (nI T) (nI L) op fa fb fc inp out rg lo so st ps mt al dp pl pe pm))) (va_Qi (fun (r : Int32) (_ : Unit) => r = (if ¬ k < 0 ∧ ¬ nI T ≤ k then so k.toNatClampNeg else (-1))) (fun _ => poW dC dI (tyL cI cJ) (va_A (w1 a cI cJ (nI T) (nI L) op fa fb fc inp out rg lo so st ps mt al dp pl pe pm) sz) (w1 a cI cJ (nI T) (nI L) op fa fb fc inp out rg lo so st ps mt al dp pl pe pm)) (va_A (w1 a cI cJ (nI T) (nI L) op fa fb fc inp out rg lo so st ps mt al dp pl pe pm) sz)) 0 0 (va_A (w1 a cI cJ (nI T) (nI L) op fa fb fc inp out rg lo so st ps mt al dp pl pe pm) sz) := by
  refine n_met (by decide) (Nat.le_of_ble_eq_true rfl) ?_
  intro p e s m below meth c ls SF hr hlocks hnm hsz hK hP hD hA hl
  subst hsz
  have hS : va_S (va_A (w1 a cI cJ (nI T) (nI L) op fa fb fc inp out rg lo so st ps mt al dp pl pe pm) s.heap.size) s.heap s.heap [] := va_S.rf
  generalize va_A (w1 a cI cJ (nI T) (nI L) op fa fb fc inp out rg lo so st ps mt al dp pl pe pm) s.heap.size = A at hD hA hS ⊢
  obtain ⟨hx, hb, hml, hown, hts⟩ := id SF
  have hown : s.vm.findClass RX1 = some m.cls := hown
  have SF : CallFix p m c cX1_steps 2 s _ lw_all RX1 := SF
  have hl : lv_has ls 2 [(0, .ref (a 0)), (1, .int k)] := hl
  refine lv_aload_n hx hb dX1_steps_0 rfl (lv_at hl 0 rfl) ?_
  refine lv_iload_n hx hb dX1_steps_1 rfl (lv_at hl 1 rfl) ?_
  refine n_calli (As := [.int k]) (rest := []) SF (mX1_isThread l dC dI a cI cJ _ T L op fa fb fc inp out rg lo so st ps mt al dp pl pe pm k) (cwV 1 hts (lw_V q154 q156 qs11 q16 q157) rfl rfl rfl (by decide +kernel) ⟨Nat.le_of_ble_eq_true rfl, Nat.le_of_ble_eq_true rfl⟩) hK hP hD hS hA 0 0 rfl rfl rfl rfl hl.1 rfl (Nat.le_of_ble_eq_true rfl) dX1_steps_2 ⟨Nat.le_of_ble_eq_true rfl, Nat.le_of_ble_eq_true rfl⟩ (fun r u H locs er hP hD hS => ?_)
  refine lv_if_eq (tgt := 17) hx hb dX1_steps_5 (by decide) (fun c1 => ?_) (fun c1 => ?_)
  · have hn : ¬ (¬ k < 0 ∧ ¬ nI T ≤ k) := fun q => by rw [if_pos q] at er; rw [er] at c1; exact absurd c1 (by decide)
    refine lv_iconst (v := (-1)) hx hb dX1_steps_17 (by decide) ?_
    exact W.iret (v := (-1)) hx hb hr (fun t9 h9 hW9 => ⟨⟨_, (), rfl, (if_neg hn).symm, by rw [h9]; exact hP, va_K.moved hW9.alike hK, hD⟩, hS.F h9⟩) hS.2.2 dX1_steps_18
  · have hy : ¬ k < 0 ∧ ¬ nI T ≤ k := Classical.byContradiction fun q => by rw [if_neg q] at er; exact c1 er
    obtain ⟨j, hj, rfl⟩ : ∃ j : Nat, j < T ∧ k = nI j := by rcases pk_ix k (n := T) (by omega) with q | q | q; exact absurd q hy.1; exact absurd q hy.2; exact q
    refine lv_aload_n hx hb dX1_steps_8 rfl (lv_at hl 0 rfl) ?_
    refine va_get (D := (dC, dI)) (ci := 0) (v := .ref (a 9)) (C := RX1) (T := TX1) (N := 19) hx hb hts in_X1 hown hK hP 0 rfl rfl 10 (by decide) (hts _ q36) (fun _ h9 => h9) rfl dX1_steps_9 ?_
    refine lv_iload_n hx hb dX1_steps_12 rfl (lv_at hl 1 rfl) ?_
    refine n_iald hx hb hK hP 9 0 rfl rfl j rfl (by omega) (by decide) dX1_steps_13 ?_
    refine lv_goto (tgt := 18) hx hb dX1_steps_14 (by decide) ?_
    exact W.iret (v := so j) hx hb hr (fun t9 h9 hW9 => ⟨⟨_, (), rfl, by show _ = ite _ _ _; rw [if_pos hy, nI_clamp (by omega)], by rw [h9]; exact hP, va_K.moved hW9.alike hK, hD⟩, hS.F h9⟩) hS.2.2 dX1_steps_18
set_option maxHeartbeats 4000000 in
set_option maxRecDepth 100000 in
theorem mX1_state (l : Launch) (dC : Nat → ClassId) (dI : Nat → Nat → Nat) (a : Nat → Nat) (cI cJ : ClassId) (sz : Nat) (T L : Nat) (op fa fb fc inp out rg lo so st : Nat → Int32) (ps : Nat → Int64) (mt : Nat → Int32) (al dp : Int32) (pl pe pm : Nat → Int32) (k : Int32) (hT : T ≤ 8) : Met l yX1_state (ws_ yX1_state cX1_state 2 (some .int)) ({ frames := 1, cells := 0, slots := 0, locals := 21 } : Room) (va_Pc [.ref (a 0), .int k] (prW dC dI (tyL cI cJ) sz (w1 a cI cJ (nI T) (nI L) op fa fb fc inp out rg lo so st ps mt al dp pl pe pm))) (va_Qi (fun (r : Int32) (_ : Unit) => r = (if ¬ k < 0 ∧ ¬ nI T ≤ k then st k.toNatClampNeg else (-1))) (fun _ => poW dC dI (tyL cI cJ) (va_A (w1 a cI cJ (nI T) (nI L) op fa fb fc inp out rg lo so st ps mt al dp pl pe pm) sz) (w1 a cI cJ (nI T) (nI L) op fa fb fc inp out rg lo so st ps mt al dp pl pe pm)) (va_A (w1 a cI cJ (nI T) (nI L) op fa fb fc inp out rg lo so st ps mt al dp pl pe pm) sz)) 0 0 (va_A (w1 a cI cJ (nI T) (nI L) op fa fb fc inp out rg lo so st ps mt al dp pl pe pm) sz) := by
  refine n_met (by decide) (Nat.le_of_ble_eq_true rfl) ?_
  intro p e s m below meth c ls SF hr hlocks hnm hsz hK hP hD hA hl
  subst hsz
  have hS : va_S (va_A (w1 a cI cJ (nI T) (nI L) op fa fb fc inp out rg lo so st ps mt al dp pl pe pm) s.heap.size) s.heap s.heap [] := va_S.rf
  generalize va_A (w1 a cI cJ (nI T) (nI L) op fa fb fc inp out rg lo so st ps mt al dp pl pe pm) s.heap.size = A at hD hA hS ⊢
  obtain ⟨hx, hb, hml, hown, hts⟩ := id SF
  have hown : s.vm.findClass RX1 = some m.cls := hown
  have SF : CallFix p m c cX1_state 2 s _ lw_all RX1 := SF
  have hl : lv_has ls 2 [(0, .ref (a 0)), (1, .int k)] := hl
  refine lv_aload_n hx hb dX1_state_0 rfl (lv_at hl 0 rfl) ?_
  refine lv_iload_n hx hb dX1_state_1 rfl (lv_at hl 1 rfl) ?_
  refine n_calli (As := [.int k]) (rest := []) SF (mX1_isThread l dC dI a cI cJ _ T L op fa fb fc inp out rg lo so st ps mt al dp pl pe pm k) (cwV 1 hts (lw_V q154 q156 qs11 q16 q157) rfl rfl rfl (by decide +kernel) ⟨Nat.le_of_ble_eq_true rfl, Nat.le_of_ble_eq_true rfl⟩) hK hP hD hS hA 0 0 rfl rfl rfl rfl hl.1 rfl (Nat.le_of_ble_eq_true rfl) dX1_state_2 ⟨Nat.le_of_ble_eq_true rfl, Nat.le_of_ble_eq_true rfl⟩ (fun r u H locs er hP hD hS => ?_)
  refine lv_if_eq (tgt := 17) hx hb dX1_state_5 (by decide) (fun c1 => ?_) (fun c1 => ?_)
  · have hn : ¬ (¬ k < 0 ∧ ¬ nI T ≤ k) := fun q => by rw [if_pos q] at er; rw [er] at c1; exact absurd c1 (by decide)
    refine lv_iconst (v := (-1)) hx hb dX1_state_17 (by decide) ?_
    exact W.iret (v := (-1)) hx hb hr (fun t9 h9 hW9 => ⟨⟨_, (), rfl, (if_neg hn).symm, by rw [h9]; exact hP, va_K.moved hW9.alike hK, hD⟩, hS.F h9⟩) hS.2.2 dX1_state_18
  · have hy : ¬ k < 0 ∧ ¬ nI T ≤ k := Classical.byContradiction fun q => by rw [if_neg q] at er; exact c1 er
    obtain ⟨j, hj, rfl⟩ : ∃ j : Nat, j < T ∧ k = nI j := by rcases pk_ix k (n := T) (by omega) with q | q | q; exact absurd q hy.1; exact absurd q hy.2; exact q
    refine lv_aload_n hx hb dX1_state_8 rfl (lv_at hl 0 rfl) ?_
    refine va_get (D := (dC, dI)) (ci := 0) (v := .ref (a 10)) (C := RX1) (T := TX1) (N := 19) hx hb hts in_X1 hown hK hP 0 rfl rfl 11 (by decide) (hts _ q37) (fun _ h9 => h9) rfl dX1_state_9 ?_
    refine lv_iload_n hx hb dX1_state_12 rfl (lv_at hl 1 rfl) ?_
    refine n_iald hx hb hK hP 10 0 rfl rfl j rfl (by omega) (by decide) dX1_state_13 ?_
    refine lv_goto (tgt := 18) hx hb dX1_state_14 (by decide) ?_
    exact W.iret (v := st j) hx hb hr (fun t9 h9 hW9 => ⟨⟨_, (), rfl, by show _ = ite _ _ _; rw [if_pos hy, nI_clamp (by omega)], by rw [h9]; exact hP, va_K.moved hW9.alike hK, hD⟩, hS.F h9⟩) hS.2.2 dX1_state_18
set_option maxHeartbeats 4000000 in
set_option maxRecDepth 100000 in
theorem mX1_capped (l : Launch) (dC : Nat → ClassId) (dI : Nat → Nat → Nat) (a : Nat → Nat) (cI cJ : ClassId) (sz : Nat) (T L : Nat) (op fa fb fc inp out rg lo so st : Nat → Int32) (ps : Nat → Int64) (mt : Nat → Int32) (al dp : Int32) (pl pe pm : Nat → Int32) (k : Nat) (hL : L ≤ 32) (hk : k < 2 ^ 31) : Met l yX1_capped (ws_ yX1_capped cX1_capped 2 (some .int)) ({ frames := 0, cells := 0, slots := 0, locals := 0 } : Room) (va_Pc [.ref (a 0), .int (nI k)] (prW dC dI (tyL cI cJ) sz (w1 a cI cJ (nI T) (nI L) op fa fb fc inp out rg lo so st ps mt al dp pl pe pm))) (va_Qi (fun (r : Int32) (_ : Unit) => ∃ j : Nat, j ≤ L ∧ r = nI j) (fun _ => poW dC dI (tyL cI cJ) (va_A (w1 a cI cJ (nI T) (nI L) op fa fb fc inp out rg lo so st ps mt al dp pl pe pm) sz) (w1 a cI cJ (nI T) (nI L) op fa fb fc inp out rg lo so st ps mt al dp pl pe pm)) (va_A (w1 a cI cJ (nI T) (nI L) op fa fb fc inp out rg lo so st ps mt al dp pl pe pm) sz)) 0 0 (va_A (w1 a cI cJ (nI T) (nI L) op fa fb fc inp out rg lo so st ps mt al dp pl pe pm) sz) := by
  refine n_met (by decide) (Nat.le_of_ble_eq_true rfl) ?_
  intro p e s m below meth c ls SF hr hlocks hnm hsz hK hP hD hA hl
  subst hsz
  have hS : va_S (va_A (w1 a cI cJ (nI T) (nI L) op fa fb fc inp out rg lo so st ps mt al dp pl pe pm) s.heap.size) s.heap s.heap [] := va_S.rf
  generalize va_A (w1 a cI cJ (nI T) (nI L) op fa fb fc inp out rg lo so st ps mt al dp pl pe pm) s.heap.size = A at hD hA hS ⊢
  obtain ⟨hx, hb, hml, hown, hts⟩ := id SF
  have hown : s.vm.findClass RX1 = some m.cls := hown
  have SF : CallFix p m c cX1_capped 2 s _ lw_all RX1 := SF
  have hl : lv_has ls 2 [(0, .ref (a 0)), (1, .int (nI k))] := hl
  refine lv_iload_n hx hb dX1_capped_0 rfl (lv_at hl 1 rfl) ?_
  refine lv_aload_n hx hb dX1_capped_1 rfl (lv_at hl 0 rfl) ?_
  refine va_get (D := (dC, dI)) (ci := 0) (v := .int (nI L)) (C := RX1) (T := TX1) (N := 19) hx hb hts in_X1 hown hK hP 0 rfl rfl 1 (by decide) (hts _ q27) (fun _ h9 => h9) rfl dX1_capped_2 ?_
  refine lv_icmp_ge (tgt := 12) hx hb dX1_capped_5 (by decide) (fun c1 => ?_) (fun c1 => ?_)
  · refine lv_aload_n hx hb dX1_capped_12 rfl (lv_at hl 0 rfl) ?_
    refine va_get (D := (dC, dI)) (ci := 0) (v := .int (nI L)) (C := RX1) (T := TX1) (N := 19) hx hb hts in_X1 hown hK hP 0 rfl rfl 1 (by decide) (hts _ q27) (fun _ h9 => h9) rfl dX1_capped_13 ?_
    exact W.iret (v := nI L) hx hb hr (fun t9 h9 hW9 => ⟨⟨_, (), rfl, ⟨L, Nat.le_refl _, rfl⟩, by rw [h9]; exact hP, va_K.moved hW9.alike hK, hD⟩, hS.F h9⟩) hS.2.2 dX1_capped_16
  · refine lv_iload_n hx hb dX1_capped_8 rfl (lv_at hl 1 rfl) ?_
    refine lv_goto (tgt := 16) hx hb dX1_capped_9 (by decide) ?_
    exact W.iret (v := nI k) hx hb hr (fun t9 h9 hW9 => ⟨⟨_, (), rfl, ⟨k, Nat.le_of_lt (Nat.lt_of_not_le fun q => c1 (nI_le q hk)), rfl⟩, by rw [h9]; exact hP, va_K.moved hW9.alike hK, hD⟩, hS.F h9⟩) hS.2.2 dX1_capped_16
section EndThreads
variable {p : Program} {l : Launch} {e : Env} {R : Room} {s : State} {m : MethodId} {args : Array Value} {below : List Frame} {meth : Method} {c : Code} {Q : State → Prop} {A : Nat → Prop} {dC : Nat → ClassId} {dI : Nat → Nat → Nat} {a : Nat → Nat} {cI cJ : ClassId}
set_option maxHeartbeats 4000000 in
set_option maxRecDepth 100000 in
theorem lpX1_endThreads (SF : CallFix p m c cX1_endThreads 5 s args lw_all RX1) (hK : va_K (dC, dI) vwCl (tyL cI cJ) s) (T L : Nat) (hT : T ≤ 8) (op fa fb fc inp out rg lo so st : Nat → Int32) (ps : Nat → Int64) (mt : Nat → Int32) (al dp : Int32) (pl pe pm : Nat → Int32) (mk0 ln0 st0 : Int32) 
    (kk : ∀ (H : Heap) (locs : List Loc) (ls : Array Slot), va_P (dC, dI) vwCl (w1 a cI cJ (nI T) (nI L) op fa fb fc inp out rg (etF T mk0 ln0 lo) so (etF T mk0 st0 st) ps mt al dp pl pe pm) H → va_D A (w1 a cI cJ (nI T) (nI L) op fa fb fc inp out rg (etF T mk0 ln0 lo) so (etF T mk0 st0 st) ps mt al dp pl pe pm) → va_S A s.heap H locs → lv_has ls 5 [(4, .int (nI T)), (0, .ref (a 0)), (1, .int mk0), (2, .int ln0), (3, .int st0)] → W p l e R s m args below meth c H locs 0 0 Q (F0 m 43 ls [])) :
    ∀ (n i : Nat), i + n = T → ∀ (H : Heap) (locs : List Loc) (ls : Array Slot), va_P (dC, dI) vwCl (w1 a cI cJ (nI T) (nI L) op fa fb fc inp out rg (etF i mk0 ln0 lo) so (etF i mk0 st0 st) ps mt al dp pl pe pm) H → va_D A (w1 a cI cJ (nI T) (nI L) op fa fb fc inp out rg (etF i mk0 ln0 lo) so (etF i mk0 st0 st) ps mt al dp pl pe pm) → va_S A s.heap H locs → lv_has ls 5 [(4, .int (nI i)), (0, .ref (a 0)), (1, .int mk0), (2, .int ln0), (3, .int st0)] → W p l e R s m args below meth c H locs 0 0 Q (F0 m 3 ls []) := by
  obtain ⟨hx, hb, hml, hown, hts⟩ := id SF
  intro n
  induction n with
  | zero =>
    intro i hi H locs ls hP hD hS hl
    refine lv_iload hx hb dX1_endThreads_3 (lv_at hl 0 rfl) ?_
    refine lv_aload_n hx hb dX1_endThreads_5 rfl (lv_at hl 1 rfl) ?_
    refine va_get (D := (dC, dI)) (ci := 0) (v := .int (nI T)) (C := RX1) (T := TX1) (N := 19) hx hb hts in_X1 hown hK hP 0 rfl rfl 0 (by decide) (hts _ q26) (fun _ h9 => h9) rfl dX1_endThreads_6 ?_
    refine lv_icmp_ge (tgt := 43) hx hb dX1_endThreads_9 (by decide) (fun cz => ?_) (fun cz => ?_)
    · obtain rfl : i = T := by omega
      exact kk H locs ls hP hD hS hl
    · exact absurd (nI_le (a := T) (b := i) (by omega) (by omega)) cz
  | succ n ih =>
    intro i hi H locs ls hP hD hS hl
    refine lv_iload hx hb dX1_endThreads_3 (lv_at hl 0 rfl) ?_
    refine lv_aload_n hx hb dX1_endThreads_5 rfl (lv_at hl 1 rfl) ?_
    refine va_get (D := (dC, dI)) (ci := 0) (v := .int (nI T)) (C := RX1) (T := TX1) (N := 19) hx hb hts in_X1 hown hK hP 0 rfl rfl 0 (by decide) (hts _ q26) (fun _ h9 => h9) rfl dX1_endThreads_6 ?_
    refine lv_icmp_ge (tgt := 43) hx hb dX1_endThreads_9 (by decide) (fun cs => ?_) (fun cs => ?_)
    · exact absurd cs (nI_ge (a := i) (b := T) (by omega) (by omega))
    · refine lv_iload_n hx hb dX1_endThreads_12 rfl (lv_at hl 2 rfl) ?_
      refine lv_iload hx hb dX1_endThreads_13 (lv_at hl 0 rfl) ?_
      refine lv_iushr hx hb dX1_endThreads_15 rfl ?_
      refine lv_iconst (v := 1) hx hb dX1_endThreads_16 (by decide) ?_
      refine lv_iand hx hb dX1_endThreads_17 ?_
      refine lv_if_eq (tgt := 37) hx hb dX1_endThreads_18 (by decide) (fun cb => ?_) (fun cb => ?_)
      · have hbit : bt mk0 i = false := (z_test mk0 i (by omega)).mp cb
        rw [show etF i mk0 ln0 lo = etF (i + 1) mk0 ln0 lo from etF_f hbit ln0 lo] at hP hD
        rw [show etF i mk0 st0 st = etF (i + 1) mk0 st0 st from etF_f hbit st0 st] at hP hD
        refine lv_iinc (v := nI (i + 1)) (lv' := [(4, .int (nI (i + 1))), (0, .ref (a 0)), (1, .int mk0), (2, .int ln0), (3, .int st0)]) hx hb dX1_endThreads_37 hl (k := 0) rfl (nI_1 _) (by decide) rfl (fun ls hl => ?_)
        refine lv_goto (tgt := 3) hx hb dX1_endThreads_40 (by decide) ?_
        exact ih (i + 1) (by omega) H locs ls hP hD hS hl
      · have hbit : bt mk0 i = true := z_tt (fun q => cb ((z_test mk0 i (by omega)).mpr q))
        refine lv_aload_n hx hb dX1_endThreads_21 rfl (lv_at hl 1 rfl) ?_
        refine va_get (D := (dC, dI)) (ci := 0) (v := .ref (a 8)) (C := RX1) (T := TX1) (N := 19) hx hb hts in_X1 hown hK hP 0 rfl rfl 9 (by decide) (hts _ q35) (fun _ h9 => h9) rfl dX1_endThreads_22 ?_
        refine lv_iload hx hb dX1_endThreads_25 (lv_at hl 0 rfl) ?_
        refine lv_iload_n hx hb dX1_endThreads_27 rfl (lv_at hl 3 rfl) ?_
        refine n_iast hx hb hK hP hD hS 8 0 rfl rfl i rfl (by omega) (by decide) dX1_endThreads_28 (fun H locs hP hD hS => ?_)
        have hP : va_P (dC, dI) vwCl (w1 a cI cJ (nI T) (nI L) op fa fb fc inp out rg (upd (etF i mk0 ln0 lo) i ln0) so (etF i mk0 st0 st) ps mt al dp pl pe pm) H := hP
        have hD : va_D A (w1 a cI cJ (nI T) (nI L) op fa fb fc inp out rg (upd (etF i mk0 ln0 lo) i ln0) so (etF i mk0 st0 st) ps mt al dp pl pe pm) := hD
        refine lv_aload_n hx hb dX1_endThreads_29 rfl (lv_at hl 1 rfl) ?_
        refine va_get (D := (dC, dI)) (ci := 0) (v := .ref (a 10)) (C := RX1) (T := TX1) (N := 19) hx hb hts in_X1 hown hK hP 0 rfl rfl 11 (by decide) (hts _ q37) (fun _ h9 => h9) rfl dX1_endThreads_30 ?_
        refine lv_iload hx hb dX1_endThreads_33 (lv_at hl 0 rfl) ?_
        refine lv_iload_n hx hb dX1_endThreads_35 rfl (lv_at hl 4 rfl) ?_
        refine n_iast hx hb hK hP hD hS 10 0 rfl rfl i rfl (by omega) (by decide) dX1_endThreads_36 (fun H locs hP hD hS => ?_)
        have hP : va_P (dC, dI) vwCl (w1 a cI cJ (nI T) (nI L) op fa fb fc inp out rg (upd (etF i mk0 ln0 lo) i ln0) so (upd (etF i mk0 st0 st) i st0) ps mt al dp pl pe pm) H := hP
        have hD : va_D A (w1 a cI cJ (nI T) (nI L) op fa fb fc inp out rg (upd (etF i mk0 ln0 lo) i ln0) so (upd (etF i mk0 st0 st) i st0) ps mt al dp pl pe pm) := hD
        rw [show upd (etF i mk0 ln0 lo) i ln0 = etF (i + 1) mk0 ln0 lo from etF_t hbit ln0 lo] at hP hD
        rw [show upd (etF i mk0 st0 st) i st0 = etF (i + 1) mk0 st0 st from etF_t hbit st0 st] at hP hD
        refine lv_iinc (v := nI (i + 1)) (lv' := [(4, .int (nI (i + 1))), (0, .ref (a 0)), (1, .int mk0), (2, .int ln0), (3, .int st0)]) hx hb dX1_endThreads_37 hl (k := 0) rfl (nI_1 _) (by decide) rfl (fun ls hl => ?_)
        refine lv_goto (tgt := 3) hx hb dX1_endThreads_40 (by decide) ?_
        exact ih (i + 1) (by omega) H locs ls hP hD hS hl
end EndThreads
set_option maxHeartbeats 4000000 in
set_option maxRecDepth 100000 in
theorem mX1_endThreads (l : Launch) (dC : Nat → ClassId) (dI : Nat → Nat → Nat) (a : Nat → Nat) (cI cJ : ClassId) (sz : Nat) (T L : Nat) (op fa fb fc inp out rg lo so st : Nat → Int32) (ps : Nat → Int64) (mt : Nat → Int32) (al dp : Int32) (pl pe pm : Nat → Int32) (mk0 ln0 st0 : Int32) (hT : T ≤ 8) : Met l yX1_endThreads (ws_ yX1_endThreads cX1_endThreads 5 none) ({ frames := 0, cells := 0, slots := 0, locals := 0 } : Room) (va_Pc [.ref (a 0), .int mk0, .int ln0, .int st0] (prW dC dI (tyL cI cJ) sz (w1 a cI cJ (nI T) (nI L) op fa fb fc inp out rg lo so st ps mt al dp pl pe pm))) (va_Qv (fun (_ : Unit) => True) (fun _ => poW dC dI (tyL cI cJ) (va_A (w1 a cI cJ (nI T) (nI L) op fa fb fc inp out rg lo so st ps mt al dp pl pe pm) sz) (w1 a cI cJ (nI T) (nI L) op fa fb fc inp out rg (etF T mk0 ln0 lo) so (etF T mk0 st0 st) ps mt (al &&& (mk0 ^^^ (-1))) dp pl pe pm)) (va_A (w1 a cI cJ (nI T) (nI L) op fa fb fc inp out rg lo so st ps mt al dp pl pe pm) sz)) 0 0 (va_A (w1 a cI cJ (nI T) (nI L) op fa fb fc inp out rg lo so st ps mt al dp pl pe pm) sz) := by
  refine n_met (by decide) (Nat.le_of_ble_eq_true rfl) ?_
  intro p e s m below meth c ls SF hr hlocks hnm hsz hK hP hD hA hl
  subst hsz
  have hS : va_S (va_A (w1 a cI cJ (nI T) (nI L) op fa fb fc inp out rg lo so st ps mt al dp pl pe pm) s.heap.size) s.heap s.heap [] := va_S.rf
  generalize va_A (w1 a cI cJ (nI T) (nI L) op fa fb fc inp out rg lo so st ps mt al dp pl pe pm) s.heap.size = A at hD hA hS ⊢
  obtain ⟨hx, hb, hml, hown, hts⟩ := id SF
  have hown : s.vm.findClass RX1 = some m.cls := hown
  have SF : CallFix p m c cX1_endThreads 5 s _ lw_all RX1 := SF
  have hl : lv_has ls 5 [(0, .ref (a 0)), (1, .int mk0), (2, .int ln0), (3, .int st0)] := hl
  refine lv_iconst (v := 0) hx hb dX1_endThreads_0 (by decide) ?_
  refine lv_istore (lv' := [(4, .int 0), (0, .ref (a 0)), (1, .int mk0), (2, .int ln0), (3, .int st0)]) hx hb dX1_endThreads_1 hl (by decide) rfl (fun ls hl => ?_)
  refine lpX1_endThreads SF hK T L hT op fa fb fc inp out rg lo so st ps mt al dp pl pe pm mk0 ln0 st0 ?_ T 0 (by omega) _ _ _ (by rw [etF_0, etF_0]; exact hP) (by rw [etF_0, etF_0]; exact hD) hS hl
  intro H locs ls hP hD hS hl
  refine lv_aload_n hx hb dX1_endThreads_43 rfl (lv_at hl 1 rfl) ?_
  refine lv_dup hx hb dX1_endThreads_44 rfl ?_
  refine va_get (D := (dC, dI)) (ci := 0) (v := .int al) (C := RX1) (T := TX1) (N := 19) hx hb hts in_X1 hown hK hP 0 rfl rfl 14 (by decide) (hts _ q40) (fun _ h9 => h9) rfl dX1_endThreads_45 ?_
  refine lv_iload_n hx hb dX1_endThreads_48 rfl (lv_at hl 2 rfl) ?_
  refine lv_iconst (v := (-1)) hx hb dX1_endThreads_49 (by decide) ?_
  refine lv_ixor hx hb dX1_endThreads_50 ?_
  refine lv_iand hx hb dX1_endThreads_51 ?_
  refine va_put (D := (dC, dI)) (ci := 0) (v := .int (al &&& (mk0 ^^^ (-1)))) (ty := .int) (C := RX1) (T := TX1) (N := 19) hx hb hts in_X1 tyX1 tyX1_ok nmX1 hown hK hP hD hS 0 rfl rfl 14 (by decide) (hts _ q40) (fun _ h9 => h9) rfl (by decide +kernel) rfl rfl (Nat.le_of_ble_eq_true rfl) dX1_endThreads_52 (fun H locs hP hD hS => ?_)
  have hP : va_P (dC, dI) vwCl (w1 a cI cJ (nI T) (nI L) op fa fb fc inp out rg (etF T mk0 ln0 lo) so (etF T mk0 st0 st) ps mt (al &&& (mk0 ^^^ (-1))) dp pl pe pm) H := hP
  have hD : va_D A (w1 a cI cJ (nI T) (nI L) op fa fb fc inp out rg (etF T mk0 ln0 lo) so (etF T mk0 st0 st) ps mt (al &&& (mk0 ^^^ (-1))) dp pl pe pm) := hD
  exact W.vret hx hb hr (fun t9 h9 hW9 => ⟨⟨(), rfl, trivial, by rw [h9]; exact hP, va_K.moved hW9.alike hK, hD⟩, hS.F h9⟩) hS.2.2 dX1_endThreads_55
section Reset
variable {p : Program} {l : Launch} {e : Env} {R : Room} {s : State} {m : MethodId} {args : Array Value} {below : List Frame} {meth : Method} {c : Code} {Q : State → Prop} {A : Nat → Prop} {dC : Nat → ClassId} {dI : Nat → Nat → Nat} {a : Nat → Nat} {cI cJ : ClassId}
set_option maxHeartbeats 4000000 in
set_option maxRecDepth 100000 in
theorem lpX1_reset1 (SF : CallFix p m c cX1_reset 2 s args lw_all RX1) (hK : va_K (dC, dI) vwCl (tyL cI cJ) s) (T L : Nat) (op fa fb fc inp out rg lo so st : Nat → Int32) (ps : Nat → Int64) (mt : Nat → Int32) (al dp : Int32) (pl pe pm : Nat → Int32) 
    (kk : ∀ (H : Heap) (locs : List Loc) (ls : Array Slot), va_P (dC, dI) vwCl (w1 a cI cJ (nI T) (nI L) op fa fb fc inp (zr 16 out) rg lo so st ps mt al dp pl pe pm) H → va_D A (w1 a cI cJ (nI T) (nI L) op fa fb fc inp (zr 16 out) rg lo so st ps mt al dp pl pe pm) → va_S A s.heap H locs → lv_has ls 2 [(1, .int (nI 16)), (0, .ref (a 0))] → W p l e R s m args below meth c H locs 0 0 Q (F0 m 21 ls [])) :
    ∀ (n i : Nat), i + n = 16 → ∀ (H : Heap) (locs : List Loc) (ls : Array Slot), va_P (dC, dI) vwCl (w1 a cI cJ (nI T) (nI L) op fa fb fc inp (zr i out) rg lo so st ps mt al dp pl pe pm) H → va_D A (w1 a cI cJ (nI T) (nI L) op fa fb fc inp (zr i out) rg lo so st ps mt al dp pl pe pm) → va_S A s.heap H locs → lv_has ls 2 [(1, .int (nI i)), (0, .ref (a 0))] → W p l e R s m args below meth c H locs 0 0 Q (F0 m 2 ls []) := by
  obtain ⟨hx, hb, hml, hown, hts⟩ := id SF
  intro n
  induction n with
  | zero =>
    intro i hi H locs ls hP hD hS hl
    refine lv_iload_n hx hb dX1_reset_2 rfl (lv_at hl 0 rfl) ?_
    refine lv_bipush (v := 16) hx hb dX1_reset_3 (by decide) ?_
    refine lv_icmp_ge (tgt := 21) hx hb dX1_reset_5 (by decide) (fun cz => ?_) (fun cz => ?_)
    · obtain rfl : i = 16 := by omega
      exact kk H locs ls hP hD hS hl
    · exact absurd (nI_le (a := 16) (b := i) (by omega) (by omega)) cz
  | succ n ih =>
    intro i hi H locs ls hP hD hS hl
    refine lv_iload_n hx hb dX1_reset_2 rfl (lv_at hl 0 rfl) ?_
    refine lv_bipush (v := 16) hx hb dX1_reset_3 (by decide) ?_
    refine lv_icmp_ge (tgt := 21) hx hb dX1_reset_5 (by decide) (fun cs => ?_) (fun cs => ?_)
    · exact absurd cs (nI_ge (a := i) (b := 16) (by omega) (by omega))
    · refine lv_aload_n hx hb dX1_reset_8 rfl (lv_at hl 1 rfl) ?_
      refine va_get (D := (dC, dI)) (ci := 0) (v := .ref (a 6)) (C := RX1) (T := TX1) (N := 19) hx hb hts in_X1 hown hK hP 0 rfl rfl 7 (by decide) (hts _ q33) (fun _ h9 => h9) rfl dX1_reset_9 ?_
      refine lv_iload_n hx hb dX1_reset_12 rfl (lv_at hl 0 rfl) ?_
      refine lv_iconst (v := 0) hx hb dX1_reset_13 (by decide) ?_
      refine n_iast hx hb hK hP hD hS 6 0 rfl rfl i rfl (by omega) (by decide) dX1_reset_14 (fun H locs hP hD hS => ?_)
      have hP : va_P (dC, dI) vwCl (w1 a cI cJ (nI T) (nI L) op fa fb fc inp (upd (zr i out) i 0) rg lo so st ps mt al dp pl pe pm) H := hP
      have hD : va_D A (w1 a cI cJ (nI T) (nI L) op fa fb fc inp (upd (zr i out) i 0) rg lo so st ps mt al dp pl pe pm) := hD
      rw [show upd (zr i out) i 0 = zr (i + 1) out from zr_s i out] at hP hD
      refine lv_iinc (v := nI (i + 1)) (lv' := [(1, .int (nI (i + 1))), (0, .ref (a 0))]) hx hb dX1_reset_15 hl (k := 0) rfl (nI_1 _) (by decide) rfl (fun ls hl => ?_)
      refine lv_goto (tgt := 2) hx hb dX1_reset_18 (by decide) ?_
      exact ih (i + 1) (by omega) H locs ls hP hD hS hl
set_option maxHeartbeats 4000000 in
set_option maxRecDepth 100000 in
theorem lpX1_reset2 (SF : CallFix p m c cX1_reset 2 s args lw_all RX1) (hK : va_K (dC, dI) vwCl (tyL cI cJ) s) (T L : Nat) (op fa fb fc inp out rg lo so st : Nat → Int32) (ps : Nat → Int64) (mt : Nat → Int32) (al dp : Int32) (pl pe pm : Nat → Int32) 
    (kk : ∀ (H : Heap) (locs : List Loc) (ls : Array Slot), va_P (dC, dI) vwCl (w1 a cI cJ (nI T) (nI L) op fa fb fc inp out (zr 32 rg) lo so st ps mt al dp pl pe pm) H → va_D A (w1 a cI cJ (nI T) (nI L) op fa fb fc inp out (zr 32 rg) lo so st ps mt al dp pl pe pm) → va_S A s.heap H locs → lv_has ls 2 [(1, .int (nI 32)), (0, .ref (a 0))] → W p l e R s m args below meth c H locs 0 0 Q (F0 m 42 ls [])) :
    ∀ (n i : Nat), i + n = 32 → ∀ (H : Heap) (locs : List Loc) (ls : Array Slot), va_P (dC, dI) vwCl (w1 a cI cJ (nI T) (nI L) op fa fb fc inp out (zr i rg) lo so st ps mt al dp pl pe pm) H → va_D A (w1 a cI cJ (nI T) (nI L) op fa fb fc inp out (zr i rg) lo so st ps mt al dp pl pe pm) → va_S A s.heap H locs → lv_has ls 2 [(1, .int (nI i)), (0, .ref (a 0))] → W p l e R s m args below meth c H locs 0 0 Q (F0 m 23 ls []) := by
  obtain ⟨hx, hb, hml, hown, hts⟩ := id SF
  intro n
  induction n with
  | zero =>
    intro i hi H locs ls hP hD hS hl
    refine lv_iload_n hx hb dX1_reset_23 rfl (lv_at hl 0 rfl) ?_
    refine lv_bipush (v := 32) hx hb dX1_reset_24 (by decide) ?_
    refine lv_icmp_ge (tgt := 42) hx hb dX1_reset_26 (by decide) (fun cz => ?_) (fun cz => ?_)
    · obtain rfl : i = 32 := by omega
      exact kk H locs ls hP hD hS hl
    · exact absurd (nI_le (a := 32) (b := i) (by omega) (by omega)) cz
  | succ n ih =>
    intro i hi H locs ls hP hD hS hl
    refine lv_iload_n hx hb dX1_reset_23 rfl (lv_at hl 0 rfl) ?_
    refine lv_bipush (v := 32) hx hb dX1_reset_24 (by decide) ?_
    refine lv_icmp_ge (tgt := 42) hx hb dX1_reset_26 (by decide) (fun cs => ?_) (fun cs => ?_)
    · exact absurd cs (nI_ge (a := i) (b := 32) (by omega) (by omega))
    · refine lv_aload_n hx hb dX1_reset_29 rfl (lv_at hl 1 rfl) ?_
      refine va_get (D := (dC, dI)) (ci := 0) (v := .ref (a 7)) (C := RX1) (T := TX1) (N := 19) hx hb hts in_X1 hown hK hP 0 rfl rfl 8 (by decide) (hts _ q34) (fun _ h9 => h9) rfl dX1_reset_30 ?_
      refine lv_iload_n hx hb dX1_reset_33 rfl (lv_at hl 0 rfl) ?_
      refine lv_iconst (v := 0) hx hb dX1_reset_34 (by decide) ?_
      refine n_iast hx hb hK hP hD hS 7 0 rfl rfl i rfl (by omega) (by decide) dX1_reset_35 (fun H locs hP hD hS => ?_)
      have hP : va_P (dC, dI) vwCl (w1 a cI cJ (nI T) (nI L) op fa fb fc inp out (upd (zr i rg) i 0) lo so st ps mt al dp pl pe pm) H := hP
      have hD : va_D A (w1 a cI cJ (nI T) (nI L) op fa fb fc inp out (upd (zr i rg) i 0) lo so st ps mt al dp pl pe pm) := hD
      rw [show upd (zr i rg) i 0 = zr (i + 1) rg from zr_s i rg] at hP hD
      refine lv_iinc (v := nI (i + 1)) (lv' := [(1, .int (nI (i + 1))), (0, .ref (a 0))]) hx hb dX1_reset_36 hl (k := 0) rfl (nI_1 _) (by decide) rfl (fun ls hl => ?_)
      refine lv_goto (tgt := 23) hx hb dX1_reset_39 (by decide) ?_
      exact ih (i + 1) (by omega) H locs ls hP hD hS hl
set_option maxHeartbeats 4000000 in
set_option maxRecDepth 100000 in
theorem lpX1_reset3 (SF : CallFix p m c cX1_reset 2 s args lw_all RX1) (hK : va_K (dC, dI) vwCl (tyL cI cJ) s) (T L : Nat) (op fa fb fc inp out rg lo so st : Nat → Int32) (ps : Nat → Int64) (mt : Nat → Int32) (al dp : Int32) (pl pe pm : Nat → Int32) 
    (kk : ∀ (H : Heap) (locs : List Loc) (ls : Array Slot), va_P (dC, dI) vwCl (w1 a cI cJ (nI T) (nI L) op fa fb fc inp out rg lo (zr 8 so) st ps mt al dp pl pe pm) H → va_D A (w1 a cI cJ (nI T) (nI L) op fa fb fc inp out rg lo (zr 8 so) st ps mt al dp pl pe pm) → va_S A s.heap H locs → lv_has ls 2 [(1, .int (nI 8)), (0, .ref (a 0))] → W p l e R s m args below meth c H locs 0 0 Q (F0 m 63 ls [])) :
    ∀ (n i : Nat), i + n = 8 → ∀ (H : Heap) (locs : List Loc) (ls : Array Slot), va_P (dC, dI) vwCl (w1 a cI cJ (nI T) (nI L) op fa fb fc inp out rg lo (zr i so) st ps mt al dp pl pe pm) H → va_D A (w1 a cI cJ (nI T) (nI L) op fa fb fc inp out rg lo (zr i so) st ps mt al dp pl pe pm) → va_S A s.heap H locs → lv_has ls 2 [(1, .int (nI i)), (0, .ref (a 0))] → W p l e R s m args below meth c H locs 0 0 Q (F0 m 44 ls []) := by
  obtain ⟨hx, hb, hml, hown, hts⟩ := id SF
  intro n
  induction n with
  | zero =>
    intro i hi H locs ls hP hD hS hl
    refine lv_iload_n hx hb dX1_reset_44 rfl (lv_at hl 0 rfl) ?_
    refine lv_bipush (v := 8) hx hb dX1_reset_45 (by decide) ?_
    refine lv_icmp_ge (tgt := 63) hx hb dX1_reset_47 (by decide) (fun cz => ?_) (fun cz => ?_)
    · obtain rfl : i = 8 := by omega
      exact kk H locs ls hP hD hS hl
    · exact absurd (nI_le (a := 8) (b := i) (by omega) (by omega)) cz
  | succ n ih =>
    intro i hi H locs ls hP hD hS hl
    refine lv_iload_n hx hb dX1_reset_44 rfl (lv_at hl 0 rfl) ?_
    refine lv_bipush (v := 8) hx hb dX1_reset_45 (by decide) ?_
    refine lv_icmp_ge (tgt := 63) hx hb dX1_reset_47 (by decide) (fun cs => ?_) (fun cs => ?_)
    · exact absurd cs (nI_ge (a := i) (b := 8) (by omega) (by omega))
    · refine lv_aload_n hx hb dX1_reset_50 rfl (lv_at hl 1 rfl) ?_
      refine va_get (D := (dC, dI)) (ci := 0) (v := .ref (a 9)) (C := RX1) (T := TX1) (N := 19) hx hb hts in_X1 hown hK hP 0 rfl rfl 10 (by decide) (hts _ q36) (fun _ h9 => h9) rfl dX1_reset_51 ?_
      refine lv_iload_n hx hb dX1_reset_54 rfl (lv_at hl 0 rfl) ?_
      refine lv_iconst (v := 0) hx hb dX1_reset_55 (by decide) ?_
      refine n_iast hx hb hK hP hD hS 9 0 rfl rfl i rfl (by omega) (by decide) dX1_reset_56 (fun H locs hP hD hS => ?_)
      have hP : va_P (dC, dI) vwCl (w1 a cI cJ (nI T) (nI L) op fa fb fc inp out rg lo (upd (zr i so) i 0) st ps mt al dp pl pe pm) H := hP
      have hD : va_D A (w1 a cI cJ (nI T) (nI L) op fa fb fc inp out rg lo (upd (zr i so) i 0) st ps mt al dp pl pe pm) := hD
      rw [show upd (zr i so) i 0 = zr (i + 1) so from zr_s i so] at hP hD
      refine lv_iinc (v := nI (i + 1)) (lv' := [(1, .int (nI (i + 1))), (0, .ref (a 0))]) hx hb dX1_reset_57 hl (k := 0) rfl (nI_1 _) (by decide) rfl (fun ls hl => ?_)
      refine lv_goto (tgt := 44) hx hb dX1_reset_60 (by decide) ?_
      exact ih (i + 1) (by omega) H locs ls hP hD hS hl
end Reset
set_option maxHeartbeats 4000000 in
set_option maxRecDepth 100000 in
theorem mX1_reset (l : Launch) (dC : Nat → ClassId) (dI : Nat → Nat → Nat) (a : Nat → Nat) (cI cJ : ClassId) (sz : Nat) (T L : Nat) (op fa fb fc inp out rg lo so st : Nat → Int32) (ps : Nat → Int64) (mt : Nat → Int32) (al dp : Int32) (pl pe pm : Nat → Int32)   : Met l yX1_reset (ws_ yX1_reset cX1_reset 2 none) ({ frames := 0, cells := 0, slots := 0, locals := 0 } : Room) (va_Pc [.ref (a 0)] (prW dC dI (tyL cI cJ) sz (w1 a cI cJ (nI T) (nI L) op fa fb fc inp out rg lo so st ps mt al dp pl pe pm))) (va_Qv (fun (_ : Unit) => True) (fun _ => poW dC dI (tyL cI cJ) (va_A (w1 a cI cJ (nI T) (nI L) op fa fb fc inp out rg lo so st ps mt al dp pl pe pm) sz) (w1 a cI cJ (nI T) (nI L) op fa fb fc inp (zr 16 out) (zr 32 rg) lo (zr 8 so) st ps mt (((1 : Int32) <<< (nI T &&& 31)) - 1) dp pl pe pm)) (va_A (w1 a cI cJ (nI T) (nI L) op fa fb fc inp out rg lo so st ps mt al dp pl pe pm) sz)) 0 0 (va_A (w1 a cI cJ (nI T) (nI L) op fa fb fc inp out rg lo so st ps mt al dp pl pe pm) sz) := by
  refine n_met (by decide) (Nat.le_of_ble_eq_true rfl) ?_
  intro p e s m below meth c ls SF hr hlocks hnm hsz hK hP hD hA hl
  subst hsz
  have hS : va_S (va_A (w1 a cI cJ (nI T) (nI L) op fa fb fc inp out rg lo so st ps mt al dp pl pe pm) s.heap.size) s.heap s.heap [] := va_S.rf
  generalize va_A (w1 a cI cJ (nI T) (nI L) op fa fb fc inp out rg lo so st ps mt al dp pl pe pm) s.heap.size = A at hD hA hS ⊢
  obtain ⟨hx, hb, hml, hown, hts⟩ := id SF
  have hown : s.vm.findClass RX1 = some m.cls := hown
  have SF : CallFix p m c cX1_reset 2 s _ lw_all RX1 := SF
  have hl : lv_has ls 2 [(0, .ref (a 0))] := hl
  refine lv_iconst (v := 0) hx hb dX1_reset_0 (by decide) ?_
  refine lv_istore_n (lv' := [(1, .int 0), (0, .ref (a 0))]) hx hb dX1_reset_1 rfl hl (by decide) rfl (fun ls hl => ?_)
  refine lpX1_reset1 SF hK T L op fa fb fc inp out rg lo so st ps mt al dp pl pe pm ?_ 16 0 rfl _ _ _ (by rw [zr_0]; exact hP) (by rw [zr_0]; exact hD) hS hl
  intro H locs ls hP hD hS hl
  refine lv_iconst (v := 0) hx hb dX1_reset_21 (by decide) ?_
  refine lv_istore_n (lv' := [(1, .int 0), (0, .ref (a 0))]) hx hb dX1_reset_22 rfl hl (by decide) rfl (fun ls hl => ?_)
  refine lpX1_reset2 SF hK T L op fa fb fc inp (zr 16 out) rg lo so st ps mt al dp pl pe pm ?_ 32 0 rfl _ _ _ (by rw [zr_0]; exact hP) (by rw [zr_0]; exact hD) hS hl
  intro H locs ls hP hD hS hl
  refine lv_iconst (v := 0) hx hb dX1_reset_42 (by decide) ?_
  refine lv_istore_n (lv' := [(1, .int 0), (0, .ref (a 0))]) hx hb dX1_reset_43 rfl hl (by decide) rfl (fun ls hl => ?_)
  refine lpX1_reset3 SF hK T L op fa fb fc inp (zr 16 out) (zr 32 rg) lo so st ps mt al dp pl pe pm ?_ 8 0 rfl _ _ _ (by rw [zr_0]; exact hP) (by rw [zr_0]; exact hD) hS hl
  intro H locs ls hP hD hS hl
  refine lv_aload_n hx hb dX1_reset_63 rfl (lv_at hl 1 rfl) ?_
  refine lv_iconst (v := 1) hx hb dX1_reset_64 (by decide) ?_
  refine lv_aload_n hx hb dX1_reset_65 rfl (lv_at hl 1 rfl) ?_
  refine va_get (D := (dC, dI)) (ci := 0) (v := .int (nI T)) (C := RX1) (T := TX1) (N := 19) hx hb hts in_X1 hown hK hP 0 rfl rfl 0 (by decide) (hts _ q26) (fun _ h9 => h9) rfl dX1_reset_66 ?_
  refine lv_ishl hx hb dX1_reset_69 ?_
  refine lv_iconst (v := 1) hx hb dX1_reset_70 (by decide) ?_
  refine lv_isub hx hb dX1_reset_71 ?_
  refine va_put (D := (dC, dI)) (ci := 0) (v := .int ((1 <<< ((nI T) &&& 31)) - 1)) (ty := .int) (C := RX1) (T := TX1) (N := 19) hx hb hts in_X1 tyX1 tyX1_ok nmX1 hown hK hP hD hS 0 rfl rfl 14 (by decide) (hts _ q40) (fun _ h9 => h9) rfl (by decide +kernel) rfl rfl (Nat.le_of_ble_eq_true rfl) dX1_reset_72 (fun H locs hP hD hS => ?_)
  have hP : va_P (dC, dI) vwCl (w1 a cI cJ (nI T) (nI L) op fa fb fc inp (zr 16 out) (zr 32 rg) lo (zr 8 so) st ps mt ((1 <<< ((nI T) &&& 31)) - 1) dp pl pe pm) H := hP
  have hD : va_D A (w1 a cI cJ (nI T) (nI L) op fa fb fc inp (zr 16 out) (zr 32 rg) lo (zr 8 so) st ps mt ((1 <<< ((nI T) &&& 31)) - 1) dp pl pe pm) := hD
  exact W.vret hx hb hr (fun t9 h9 hW9 => ⟨⟨(), rfl, trivial, by rw [h9]; exact hP, va_K.moved hW9.alike hK, hD⟩, hS.F h9⟩) hS.2.2 dX1_reset_75
end
section
/-! contracts: work, branch of WarpMachine -/
set_option maxHeartbeats 4000000 in
set_option maxRecDepth 100000 in
theorem mX1_work (l : Launch) (dC : Nat → ClassId) (dI : Nat → Nat → Nat) (a : Nat → Nat) (cI cJ : ClassId) (sz : Nat) (T L : Nat) (op fa fb fc inp out rg lo so st : Nat → Int32) (ps : Nat → Int64) (mt : Nat → Int32) (al dp : Int32) (pl pe pm : Nat → Int32) (t l0 : Nat) (o : Int32) (ht : t < 8) (hl0 : l0 < 32) : Met l yX1_work (ws_ yX1_work cX1_work 8 none) ({ frames := 1, cells := 0, slots := 0, locals := 22 } : Room) (va_Pc [.ref (a 0), .int (nI t), .int o, .int (nI l0)] (prW dC dI (tyL cI cJ) sz (w1 a cI cJ (nI T) (nI L) op fa fb fc inp out rg lo so st ps mt al dp pl pe pm))) (va_Qv (fun (_ : Unit) => True) (fun _ => poW dC dI (tyL cI cJ) (va_A (w1 a cI cJ (nI T) (nI L) op fa fb fc inp out rg lo so st ps mt al dp pl pe pm) sz) (w1 a cI cJ (nI T) (nI L) op fa fb fc inp (wkO (op, fa, fb, fc, inp, L) o t l0 rg out) (wkR (op, fa, fb, fc, inp, L) o t l0 rg) lo so st ps mt al dp pl pe pm)) (va_A (w1 a cI cJ (nI T) (nI L) op fa fb fc inp out rg lo so st ps mt al dp pl pe pm) sz)) 0 0 (va_A (w1 a cI cJ (nI T) (nI L) op fa fb fc inp out rg lo so st ps mt al dp pl pe pm) sz) := by
  refine n_met (by decide) (Nat.le_of_ble_eq_true rfl) ?_
  intro p e s m below meth c ls SF hr hlocks hnm hsz hK hP hD hA hl
  subst hsz
  have hS : va_S (va_A (w1 a cI cJ (nI T) (nI L) op fa fb fc inp out rg lo so st ps mt al dp pl pe pm) s.heap.size) s.heap s.heap [] := va_S.rf
  generalize va_A (w1 a cI cJ (nI T) (nI L) op fa fb fc inp out rg lo so st ps mt al dp pl pe pm) s.heap.size = A at hD hA hS ⊢
  obtain ⟨hx, hb, hml, hown, hts⟩ := id SF
  have hown : s.vm.findClass RX1 = some m.cls := hown
  have SF : CallFix p m c cX1_work 8 s _ lw_all RX1 := SF
  have hl : lv_has ls 8 [(0, .ref (a 0)), (1, .int (nI t)), (2, .int o), (3, .int (nI l0))] := hl
  have h4a := m4_lt (fa l0)
  have h4b := m4_lt (fb l0)
  have h4c := m4_lt (fc l0)
  refine lv_iconst (v := 4) hx hb dX1_work_0 (by decide) ?_
  refine lv_iload_n hx hb dX1_work_1 rfl (lv_at hl 1 rfl) ?_
  refine lv_imul hx hb dX1_work_2 ?_
  refine lv_aload_n hx hb dX1_work_3 rfl (lv_at hl 0 rfl) ?_
  refine va_get (D := (dC, dI)) (ci := 0) (v := .ref (a 2)) (C := RX1) (T := TX1) (N := 19) hx hb hts in_X1 hown hK hP 0 rfl rfl 3 (by decide) (hts _ q29) (fun _ h9 => h9) rfl dX1_work_4 ?_
  refine lv_iload_n hx hb dX1_work_7 rfl (lv_at hl 3 rfl) ?_
  refine n_iald hx hb hK hP 2 0 rfl rfl l0 rfl (by omega) (by decide) dX1_work_8 ?_
  refine lv_iconst (v := 3) hx hb dX1_work_9 (by decide) ?_
  refine lv_iand hx hb dX1_work_10 ?_
  refine lv_iadd hx hb dX1_work_11 ?_
  refine n_topi (y := nI (4 * t + m4 (fa l0))) (i4 t (fa l0)) ?_
  refine lv_istore (lv' := [(4, .int (nI (4 * t + m4 (fa l0)))), (0, .ref (a 0)), (1, .int (nI t)), (2, .int o), (3, .int (nI l0))]) hx hb dX1_work_12 hl (by decide) rfl (fun ls hl => ?_)
  refine lv_iconst (v := 4) hx hb dX1_work_14 (by decide) ?_
  refine lv_iload_n hx hb dX1_work_15 rfl (lv_at hl 2 rfl) ?_
  refine lv_imul hx hb dX1_work_16 ?_
  refine lv_aload_n hx hb dX1_work_17 rfl (lv_at hl 1 rfl) ?_
  refine va_get (D := (dC, dI)) (ci := 0) (v := .ref (a 3)) (C := RX1) (T := TX1) (N := 19) hx hb hts in_X1 hown hK hP 0 rfl rfl 4 (by decide) (hts _ q30) (fun _ h9 => h9) rfl dX1_work_18 ?_
  refine lv_iload_n hx hb dX1_work_21 rfl (lv_at hl 4 rfl) ?_
  refine n_iald hx hb hK hP 3 0 rfl rfl l0 rfl (by omega) (by decide) dX1_work_22 ?_
  refine lv_iconst (v := 3) hx hb dX1_work_23 (by decide) ?_
  refine lv_iand hx hb dX1_work_24 ?_
  refine lv_iadd hx hb dX1_work_25 ?_
  refine n_topi (y := nI (4 * t + m4 (fb l0))) (i4 t (fb l0)) ?_
  refine lv_istore (lv' := [(5, .int (nI (4 * t + m4 (fb l0)))), (4, .int (nI (4 * t + m4 (fa l0)))), (0, .ref (a 0)), (1, .int (nI t)), (2, .int o), (3, .int (nI l0))]) hx hb dX1_work_26 hl (by decide) rfl (fun ls hl => ?_)
  refine lv_aload_n hx hb dX1_work_28 rfl (lv_at hl 2 rfl) ?_
  refine va_get (D := (dC, dI)) (ci := 0) (v := .ref (a 7)) (C := RX1) (T := TX1) (N := 19) hx hb hts in_X1 hown hK hP 0 rfl rfl 8 (by decide) (hts _ q34) (fun _ h9 => h9) rfl dX1_work_29 ?_
  refine lv_iload hx hb dX1_work_32 (lv_at hl 0 rfl) ?_
  refine n_iald hx hb hK hP 7 0 rfl rfl (4 * t + m4 (fb l0)) rfl (by omega) (by decide) dX1_work_34 ?_
  refine lv_istore (lv' := [(6, .int (rg (4 * t + m4 (fb l0)))), (5, .int (nI (4 * t + m4 (fb l0)))), (4, .int (nI (4 * t + m4 (fa l0)))), (0, .ref (a 0)), (1, .int (nI t)), (2, .int o), (3, .int (nI l0))]) hx hb dX1_work_35 hl (by decide) rfl (fun ls hl => ?_)
  refine lv_aload_n hx hb dX1_work_37 rfl (lv_at hl 3 rfl) ?_
  refine va_get (D := (dC, dI)) (ci := 0) (v := .ref (a 7)) (C := RX1) (T := TX1) (N := 19) hx hb hts in_X1 hown hK hP 0 rfl rfl 8 (by decide) (hts _ q34) (fun _ h9 => h9) rfl dX1_work_38 ?_
  refine lv_iconst (v := 4) hx hb dX1_work_41 (by decide) ?_
  refine lv_iload_n hx hb dX1_work_42 rfl (lv_at hl 4 rfl) ?_
  refine lv_imul hx hb dX1_work_43 ?_
  refine lv_aload_n hx hb dX1_work_44 rfl (lv_at hl 3 rfl) ?_
  refine va_get (D := (dC, dI)) (ci := 0) (v := .ref (a 4)) (C := RX1) (T := TX1) (N := 19) hx hb hts in_X1 hown hK hP 0 rfl rfl 5 (by decide) (hts _ q31) (fun _ h9 => h9) rfl dX1_work_45 ?_
  refine lv_iload_n hx hb dX1_work_48 rfl (lv_at hl 6 rfl) ?_
  refine n_iald hx hb hK hP 4 0 rfl rfl l0 rfl (by omega) (by decide) dX1_work_49 ?_
  refine lv_iconst (v := 3) hx hb dX1_work_50 (by decide) ?_
  refine lv_iand hx hb dX1_work_51 ?_
  refine lv_iadd hx hb dX1_work_52 ?_
  refine n_iald hx hb hK hP 7 0 rfl rfl (4 * t + m4 (fc l0)) (i4 t (fc l0)) (by omega) (by decide) dX1_work_53 ?_
  refine lv_istore (lv' := [(7, .int (rg (4 * t + m4 (fc l0)))), (6, .int (rg (4 * t + m4 (fb l0)))), (5, .int (nI (4 * t + m4 (fb l0)))), (4, .int (nI (4 * t + m4 (fa l0)))), (0, .ref (a 0)), (1, .int (nI t)), (2, .int o), (3, .int (nI l0))]) hx hb dX1_work_54 hl (by decide) rfl (fun ls hl => ?_)
  refine lv_iload_n hx hb dX1_work_56 rfl (lv_at hl 6 rfl) ?_
  refine lv_if_ne (tgt := 76) hx hb dX1_work_57 (by decide) (fun c0 => ?_) (fun c0 => ?_)
  · refine lv_iload_n hx hb dX1_work_76 rfl (lv_at hl 6 rfl) ?_
    refine lv_iconst (v := 5) hx hb dX1_work_77 (by decide) ?_
    refine lv_icmp_gt (tgt := 99) hx hb dX1_work_78 (by decide) (fun c5 => ?_) (fun c5 => ?_)
    · have c5 : ¬ o ≤ 5 := Int32.not_le.mpr c5
      refine lv_iload_n hx hb dX1_work_99 rfl (lv_at hl 6 rfl) ?_
      refine lv_bipush (v := 6) hx hb dX1_work_100 (by decide) ?_
      refine lv_icmp_ne (tgt := 116) hx hb dX1_work_102 (by decide) (fun c6 => ?_) (fun c6 => ?_)
      · refine lv_iload_n hx hb dX1_work_116 rfl (lv_at hl 6 rfl) ?_
        refine lv_bipush (v := 7) hx hb dX1_work_117 (by decide) ?_
        refine lv_icmp_ne (tgt := 142) hx hb dX1_work_119 (by decide) (fun c7 => ?_) (fun c7 => ?_)
        · refine lv_iload_n hx hb dX1_work_142 rfl (lv_at hl 6 rfl) ?_
          refine lv_bipush (v := 8) hx hb dX1_work_143 (by decide) ?_
          refine lv_icmp_ne (tgt := 168) hx hb dX1_work_145 (by decide) (fun c8 => ?_) (fun c8 => ?_)
          · have hP : va_P (dC, dI) vwCl (w1 a cI cJ (nI T) (nI L) op fa fb fc inp (wkO (op, fa, fb, fc, inp, L) o t l0 rg out) (wkR (op, fa, fb, fc, inp, L) o t l0 rg) lo so st ps mt al dp pl pe pm) s.heap := by rw [show wkR (op, fa, fb, fc, inp, L) o t l0 rg = rg from wkR_e c0 c5 c6 c7, show wkO (op, fa, fb, fc, inp, L) o t l0 rg out = out from wkO_n c8]; exact hP
            have hD : va_D A (w1 a cI cJ (nI T) (nI L) op fa fb fc inp (wkO (op, fa, fb, fc, inp, L) o t l0 rg out) (wkR (op, fa, fb, fc, inp, L) o t l0 rg) lo so st ps mt al dp pl pe pm) := by rw [show wkR (op, fa, fb, fc, inp, L) o t l0 rg = rg from wkR_e c0 c5 c6 c7, show wkO (op, fa, fb, fc, inp, L) o t l0 rg out = out from wkO_n c8]; exact hD
            exact W.vret hx hb hr (fun t9 h9 hW9 => ⟨⟨(), rfl, trivial, by rw [h9]; exact hP, va_K.moved hW9.alike hK, hD⟩, hS.F h9⟩) hS.2.2 dX1_work_168
          · refine lv_aload_n hx hb dX1_work_148 rfl (lv_at hl 4 rfl) ?_
            refine va_get (D := (dC, dI)) (ci := 0) (v := .ref (a 6)) (C := RX1) (T := TX1) (N := 19) hx hb hts in_X1 hown hK hP 0 rfl rfl 7 (by decide) (hts _ q33) (fun _ h9 => h9) rfl dX1_work_149 ?_
            refine lv_aload_n hx hb dX1_work_152 rfl (lv_at hl 4 rfl) ?_
            refine va_get (D := (dC, dI)) (ci := 0) (v := .ref (a 7)) (C := RX1) (T := TX1) (N := 19) hx hb hts in_X1 hown hK hP 0 rfl rfl 8 (by decide) (hts _ q34) (fun _ h9 => h9) rfl dX1_work_153 ?_
            refine lv_iload hx hb dX1_work_156 (lv_at hl 3 rfl) ?_
            refine n_iald hx hb hK hP 7 0 rfl rfl (4 * t + m4 (fa l0)) rfl (by omega) (by decide) dX1_work_158 ?_
            refine lv_bipush (v := 15) hx hb dX1_work_159 (by decide) ?_
            refine lv_iand hx hb dX1_work_161 ?_
            refine lv_dup2_11 hx hb dX1_work_162 rfl rfl ?_
            refine n_iald hx hb hK hP 6 0 rfl rfl (m16 (rg (4 * t + m4 (fa l0)))) (e16 _) (m16_lt _) (by decide) dX1_work_163 ?_
            refine lv_iload hx hb dX1_work_164 (lv_at hl 1 rfl) ?_
            refine lv_iadd hx hb dX1_work_166 ?_
            refine n_iast hx hb hK hP hD hS 6 0 rfl rfl (m16 (rg (4 * t + m4 (fa l0)))) (e16 _) (m16_lt _) (by decide) dX1_work_167 (fun H locs hP hD hS => ?_)
            have hP : va_P (dC, dI) vwCl (w1 a cI cJ (nI T) (nI L) op fa fb fc inp (upd out (m16 (rg (4 * t + m4 (fa l0)))) ((out (m16 (rg (4 * t + m4 (fa l0))))) + (rg (4 * t + m4 (fb l0))))) rg lo so st ps mt al dp pl pe pm) H := hP
            have hD : va_D A (w1 a cI cJ (nI T) (nI L) op fa fb fc inp (upd out (m16 (rg (4 * t + m4 (fa l0)))) ((out (m16 (rg (4 * t + m4 (fa l0))))) + (rg (4 * t + m4 (fb l0))))) rg lo so st ps mt al dp pl pe pm) := hD
            have hP : va_P (dC, dI) vwCl (w1 a cI cJ (nI T) (nI L) op fa fb fc inp (wkO (op, fa, fb, fc, inp, L) o t l0 rg out) (wkR (op, fa, fb, fc, inp, L) o t l0 rg) lo so st ps mt al dp pl pe pm) H := by rw [show wkR (op, fa, fb, fc, inp, L) o t l0 rg = rg from wkR_e c0 c5 c6 c7, show wkO (op, fa, fb, fc, inp, L) o t l0 rg out = upd out (m16 (rg (4 * t + m4 (fa l0)))) ((out (m16 (rg (4 * t + m4 (fa l0))))) + (rg (4 * t + m4 (fb l0)))) from wkO_y c8]; exact hP
            have hD : va_D A (w1 a cI cJ (nI T) (nI L) op fa fb fc inp (wkO (op, fa, fb, fc, inp, L) o t l0 rg out) (wkR (op, fa, fb, fc, inp, L) o t l0 rg) lo so st ps mt al dp pl pe pm) := by rw [show wkR (op, fa, fb, fc, inp, L) o t l0 rg = rg from wkR_e c0 c5 c6 c7, show wkO (op, fa, fb, fc, inp, L) o t l0 rg out = upd out (m16 (rg (4 * t + m4 (fa l0)))) ((out (m16 (rg (4 * t + m4 (fa l0))))) + (rg (4 * t + m4 (fb l0)))) from wkO_y c8]; exact hD
            exact W.vret hx hb hr (fun t9 h9 hW9 => ⟨⟨(), rfl, trivial, by rw [h9]; exact hP, va_K.moved hW9.alike hK, hD⟩, hS.F h9⟩) hS.2.2 dX1_work_168
        · refine lv_aload_n hx hb dX1_work_122 rfl (lv_at hl 4 rfl) ?_
          refine va_get (D := (dC, dI)) (ci := 0) (v := .ref (a 7)) (C := RX1) (T := TX1) (N := 19) hx hb hts in_X1 hown hK hP 0 rfl rfl 8 (by decide) (hts _ q34) (fun _ h9 => h9) rfl dX1_work_123 ?_
          refine lv_iload hx hb dX1_work_126 (lv_at hl 3 rfl) ?_
          refine lv_aload_n hx hb dX1_work_128 rfl (lv_at hl 4 rfl) ?_
          refine va_get (D := (dC, dI)) (ci := 0) (v := .ref (a 5)) (C := RX1) (T := TX1) (N := 19) hx hb hts in_X1 hown hK hP 0 rfl rfl 6 (by decide) (hts _ q32) (fun _ h9 => h9) rfl dX1_work_129 ?_
          refine lv_iload hx hb dX1_work_132 (lv_at hl 1 rfl) ?_
          refine lv_bipush (v := 15) hx hb dX1_work_134 (by decide) ?_
          refine lv_iand hx hb dX1_work_136 ?_
          refine n_iald hx hb hK hP 5 0 rfl rfl (m16 (rg (4 * t + m4 (fb l0)))) (e16 _) (m16_lt _) (by decide) dX1_work_137 ?_
          refine n_iast hx hb hK hP hD hS 7 0 rfl rfl (4 * t + m4 (fa l0)) rfl (by omega) (by decide) dX1_work_138 (fun H locs hP hD hS => ?_)
          have hP : va_P (dC, dI) vwCl (w1 a cI cJ (nI T) (nI L) op fa fb fc inp out (upd rg (4 * t + m4 (fa l0)) (inp (m16 (rg (4 * t + m4 (fb l0)))))) lo so st ps mt al dp pl pe pm) H := hP
          have hD : va_D A (w1 a cI cJ (nI T) (nI L) op fa fb fc inp out (upd rg (4 * t + m4 (fa l0)) (inp (m16 (rg (4 * t + m4 (fb l0)))))) lo so st ps mt al dp pl pe pm) := hD
          refine lv_goto (tgt := 168) hx hb dX1_work_139 (by decide) ?_
          have hP : va_P (dC, dI) vwCl (w1 a cI cJ (nI T) (nI L) op fa fb fc inp (wkO (op, fa, fb, fc, inp, L) o t l0 rg out) (wkR (op, fa, fb, fc, inp, L) o t l0 rg) lo so st ps mt al dp pl pe pm) H := by rw [show wkR (op, fa, fb, fc, inp, L) o t l0 rg = upd rg (4 * t + m4 (fa l0)) (inp (m16 (rg (4 * t + m4 (fb l0))))) from wkR_d c7, show wkO (op, fa, fb, fc, inp, L) o t l0 rg out = out from wkO_n (by rw [c7]; decide)]; exact hP
          have hD : va_D A (w1 a cI cJ (nI T) (nI L) op fa fb fc inp (wkO (op, fa, fb, fc, inp, L) o t l0 rg out) (wkR (op, fa, fb, fc, inp, L) o t l0 rg) lo so st ps mt al dp pl pe pm) := by rw [show wkR (op, fa, fb, fc, inp, L) o t l0 rg = upd rg (4 * t + m4 (fa l0)) (inp (m16 (rg (4 * t + m4 (fb l0))))) from wkR_d c7, show wkO (op, fa, fb, fc, inp, L) o t l0 rg out = out from wkO_n (by rw [c7]; decide)]; exact hD
          exact W.vret hx hb hr (fun t9 h9 hW9 => ⟨⟨(), rfl, trivial, by rw [h9]; exact hP, va_K.moved hW9.alike hK, hD⟩, hS.F h9⟩) hS.2.2 dX1_work_168
      · refine lv_aload_n hx hb dX1_work_105 rfl (lv_at hl 4 rfl) ?_
        refine va_get (D := (dC, dI)) (ci := 0) (v := .ref (a 7)) (C := RX1) (T := TX1) (N := 19) hx hb hts in_X1 hown hK hP 0 rfl rfl 8 (by decide) (hts _ q34) (fun _ h9 => h9) rfl dX1_work_106 ?_
        refine lv_iload hx hb dX1_work_109 (lv_at hl 3 rfl) ?_
        refine lv_iload_n hx hb dX1_work_111 rfl (lv_at hl 5 rfl) ?_
        refine n_iast hx hb hK hP hD hS 7 0 rfl rfl (4 * t + m4 (fa l0)) rfl (by omega) (by decide) dX1_work_112 (fun H locs hP hD hS => ?_)
        have hP : va_P (dC, dI) vwCl (w1 a cI cJ (nI T) (nI L) op fa fb fc inp out (upd rg (4 * t + m4 (fa l0)) (nI t)) lo so st ps mt al dp pl pe pm) H := hP
        have hD : va_D A (w1 a cI cJ (nI T) (nI L) op fa fb fc inp out (upd rg (4 * t + m4 (fa l0)) (nI t)) lo so st ps mt al dp pl pe pm) := hD
        refine lv_goto (tgt := 168) hx hb dX1_work_113 (by decide) ?_
        have hP : va_P (dC, dI) vwCl (w1 a cI cJ (nI T) (nI L) op fa fb fc inp (wkO (op, fa, fb, fc, inp, L) o t l0 rg out) (wkR (op, fa, fb, fc, inp, L) o t l0 rg) lo so st ps mt al dp pl pe pm) H := by rw [show wkR (op, fa, fb, fc, inp, L) o t l0 rg = upd rg (4 * t + m4 (fa l0)) (nI t) from wkR_c c6, show wkO (op, fa, fb, fc, inp, L) o t l0 rg out = out from wkO_n (by rw [c6]; decide)]; exact hP
        have hD : va_D A (w1 a cI cJ (nI T) (nI L) op fa fb fc inp (wkO (op, fa, fb, fc, inp, L) o t l0 rg out) (wkR (op, fa, fb, fc, inp, L) o t l0 rg) lo so st ps mt al dp pl pe pm) := by rw [show wkR (op, fa, fb, fc, inp, L) o t l0 rg = upd rg (4 * t + m4 (fa l0)) (nI t) from wkR_c c6, show wkO (op, fa, fb, fc, inp, L) o t l0 rg out = out from wkO_n (by rw [c6]; decide)]; exact hD
        exact W.vret hx hb hr (fun t9 h9 hW9 => ⟨⟨(), rfl, trivial, by rw [h9]; exact hP, va_K.moved hW9.alike hK, hD⟩, hS.F h9⟩) hS.2.2 dX1_work_168
    · refine lv_aload_n hx hb dX1_work_81 rfl (lv_at hl 4 rfl) ?_
      refine va_get (D := (dC, dI)) (ci := 0) (v := .ref (a 7)) (C := RX1) (T := TX1) (N := 19) hx hb hts in_X1 hown hK hP 0 rfl rfl 8 (by decide) (hts _ q34) (fun _ h9 => h9) rfl dX1_work_82 ?_
      refine lv_iload hx hb dX1_work_85 (lv_at hl 3 rfl) ?_
      refine lv_iload_n hx hb dX1_work_87 rfl (lv_at hl 6 rfl) ?_
      refine lv_iload hx hb dX1_work_88 (lv_at hl 1 rfl) ?_
      refine lv_iload hx hb dX1_work_90 (lv_at hl 0 rfl) ?_
      refine n_calls (As := [.int o, .int (rg (4 * t + m4 (fb l0))), .int (rg (4 * t + m4 (fc l0)))]) (rest := [.int (nI (4 * t + m4 (fa l0))), .ref (a 7)]) SF (mX1_calculate l o (rg (4 * t + m4 (fb l0))) (rg (4 * t + m4 (fc l0)))) (va_cwS 3 hts (lw_S q139 q140 q16 q141) rfl rfl rfl (by decide +kernel) ⟨Nat.le_of_ble_eq_true rfl, Nat.le_of_ble_eq_true rfl⟩) hP hS rfl hl.1 rfl (Nat.le_of_ble_eq_true rfl) dX1_work_92 ⟨Nat.le_of_ble_eq_true rfl, Nat.le_of_ble_eq_true rfl⟩ (fun r H locs er hP hS => ?_)
      refine n_iast hx hb hK hP hD hS 7 0 rfl rfl (4 * t + m4 (fa l0)) rfl (by omega) (by decide) dX1_work_95 (fun H locs hP hD hS => ?_)
      have hP : va_P (dC, dI) vwCl (w1 a cI cJ (nI T) (nI L) op fa fb fc inp out (upd rg (4 * t + m4 (fa l0)) r) lo so st ps mt al dp pl pe pm) H := hP
      have hD : va_D A (w1 a cI cJ (nI T) (nI L) op fa fb fc inp out (upd rg (4 * t + m4 (fa l0)) r) lo so st ps mt al dp pl pe pm) := hD
      refine lv_goto (tgt := 168) hx hb dX1_work_96 (by decide) ?_
      have c5 : o ≤ 5 := Int32.not_lt.mp c5
      have hP : va_P (dC, dI) vwCl (w1 a cI cJ (nI T) (nI L) op fa fb fc inp (wkO (op, fa, fb, fc, inp, L) o t l0 rg out) (wkR (op, fa, fb, fc, inp, L) o t l0 rg) lo so st ps mt al dp pl pe pm) H := by rw [show wkR (op, fa, fb, fc, inp, L) o t l0 rg = upd rg (4 * t + m4 (fa l0)) r from (wkR_b c0 c5).trans (by rw [er]), show wkO (op, fa, fb, fc, inp, L) o t l0 rg out = out from wkO_n (fun q => by rw [q] at c5; exact absurd c5 (by decide))]; exact hP
      have hD : va_D A (w1 a cI cJ (nI T) (nI L) op fa fb fc inp (wkO (op, fa, fb, fc, inp, L) o t l0 rg out) (wkR (op, fa, fb, fc, inp, L) o t l0 rg) lo so st ps mt al dp pl pe pm) := by rw [show wkR (op, fa, fb, fc, inp, L) o t l0 rg = upd rg (4 * t + m4 (fa l0)) r from (wkR_b c0 c5).trans (by rw [er]), show wkO (op, fa, fb, fc, inp, L) o t l0 rg out = out from wkO_n (fun q => by rw [q] at c5; exact absurd c5 (by decide))]; exact hD
      exact W.vret hx hb hr (fun t9 h9 hW9 => ⟨⟨(), rfl, trivial, by rw [h9]; exact hP, va_K.moved hW9.alike hK, hD⟩, hS.F h9⟩) hS.2.2 dX1_work_168
  · refine lv_aload_n hx hb dX1_work_60 rfl (lv_at hl 4 rfl) ?_
    refine va_get (D := (dC, dI)) (ci := 0) (v := .ref (a 7)) (C := RX1) (T := TX1) (N := 19) hx hb hts in_X1 hown hK hP 0 rfl rfl 8 (by decide) (hts _ q34) (fun _ h9 => h9) rfl dX1_work_61 ?_
    refine lv_iload hx hb dX1_work_64 (lv_at hl 3 rfl) ?_
    refine lv_aload_n hx hb dX1_work_66 rfl (lv_at hl 4 rfl) ?_
    refine va_get (D := (dC, dI)) (ci := 0) (v := .ref (a 3)) (C := RX1) (T := TX1) (N := 19) hx hb hts in_X1 hown hK hP 0 rfl rfl 4 (by decide) (hts _ q30) (fun _ h9 => h9) rfl dX1_work_67 ?_
    refine lv_iload_n hx hb dX1_work_70 rfl (lv_at hl 7 rfl) ?_
    refine n_iald hx hb hK hP 3 0 rfl rfl l0 rfl (by omega) (by decide) dX1_work_71 ?_
    refine n_iast hx hb hK hP hD hS 7 0 rfl rfl (4 * t + m4 (fa l0)) rfl (by omega) (by decide) dX1_work_72 (fun H locs hP hD hS => ?_)
    have hP : va_P (dC, dI) vwCl (w1 a cI cJ (nI T) (nI L) op fa fb fc inp out (upd rg (4 * t + m4 (fa l0)) (fb l0)) lo so st ps mt al dp pl pe pm) H := hP
    have hD : va_D A (w1 a cI cJ (nI T) (nI L) op fa fb fc inp out (upd rg (4 * t + m4 (fa l0)) (fb l0)) lo so st ps mt al dp pl pe pm) := hD
    refine lv_goto (tgt := 168) hx hb dX1_work_73 (by decide) ?_
    have hP : va_P (dC, dI) vwCl (w1 a cI cJ (nI T) (nI L) op fa fb fc inp (wkO (op, fa, fb, fc, inp, L) o t l0 rg out) (wkR (op, fa, fb, fc, inp, L) o t l0 rg) lo so st ps mt al dp pl pe pm) H := by rw [show wkR (op, fa, fb, fc, inp, L) o t l0 rg = upd rg (4 * t + m4 (fa l0)) (fb l0) from wkR_a c0, show wkO (op, fa, fb, fc, inp, L) o t l0 rg out = out from wkO_n (by rw [c0]; decide)]; exact hP
    have hD : va_D A (w1 a cI cJ (nI T) (nI L) op fa fb fc inp (wkO (op, fa, fb, fc, inp, L) o t l0 rg out) (wkR (op, fa, fb, fc, inp, L) o t l0 rg) lo so st ps mt al dp pl pe pm) := by rw [show wkR (op, fa, fb, fc, inp, L) o t l0 rg = upd rg (4 * t + m4 (fa l0)) (fb l0) from wkR_a c0, show wkO (op, fa, fb, fc, inp, L) o t l0 rg out = out from wkO_n (by rw [c0]; decide)]; exact hD
    exact W.vret hx hb hr (fun t9 h9 hW9 => ⟨⟨(), rfl, trivial, by rw [h9]; exact hP, va_K.moved hW9.alike hK, hD⟩, hS.F h9⟩) hS.2.2 dX1_work_168
set_option maxHeartbeats 4000000 in
set_option maxRecDepth 100000 in
theorem mX1_branch (l : Launch) (dC : Nat → ClassId) (dI : Nat → Nat → Nat) (a : Nat → Nat) (cI cJ : ClassId) (sz : Nat) (T L : Nat) (op fa fb fc inp out rg lo so st : Nat → Int32) (ps : Nat → Int64) (mt : Nat → Int32) (al : Int32) (pl pe pm : Nat → Int32) (k l0 d : Nat) (zero oth : Int32) (hk : k < 32) (hl0 : l0 < 32) (hd : d < 31) : Met l yX1_branch (ws_ yX1_branch cX1_branch 7 none) ({ frames := 1, cells := 0, slots := 0, locals := 23 } : Room) (va_Pc [.ref (a 0), .int (nI k), .int (nI l0), .int zero, .int oth] (prW dC dI (tyL cI cJ) sz (w1 a cI cJ (nI T) (nI L) op fa fb fc inp out rg lo so st ps mt al (nI d) pl pe pm))) (va_Qv (fun u => brR fb mt k l0 d zero oth pl pe pm u) (fun u => poW dC dI (tyL cI cJ) (va_A (w1 a cI cJ (nI T) (nI L) op fa fb fc inp out rg lo so st ps mt al (nI d) pl pe pm) sz) (w1 a cI cJ (nI T) (nI L) op fa fb fc inp out rg lo so st ps mt al (nI u.1) u.2.1 u.2.2.1 u.2.2.2)) (va_A (w1 a cI cJ (nI T) (nI L) op fa fb fc inp out rg lo so st ps mt al (nI d) pl pe pm) sz)) 0 0 (va_A (w1 a cI cJ (nI T) (nI L) op fa fb fc inp out rg lo so st ps mt al (nI d) pl pe pm) sz) := by
  refine n_met (by decide) (Nat.le_of_ble_eq_true rfl) ?_
  intro p e s m below meth c ls SF hr hlocks hnm hsz hK hP hD hA hl
  subst hsz
  have hS : va_S (va_A (w1 a cI cJ (nI T) (nI L) op fa fb fc inp out rg lo so st ps mt al (nI d) pl pe pm) s.heap.size) s.heap s.heap [] := va_S.rf
  generalize va_A (w1 a cI cJ (nI T) (nI L) op fa fb fc inp out rg lo so st ps mt al (nI d) pl pe pm) s.heap.size = A at hD hA hS ⊢
  obtain ⟨hx, hb, hml, hown, hts⟩ := id SF
  have hown : s.vm.findClass RX1 = some m.cls := hown
  have SF : CallFix p m c cX1_branch 7 s _ lw_all RX1 := SF
  have hl : lv_has ls 7 [(0, .ref (a 0)), (1, .int (nI k)), (2, .int (nI l0)), (3, .int zero), (4, .int oth)] := hl
  refine lv_aload_n hx hb dX1_branch_0 rfl (lv_at hl 0 rfl) ?_
  refine va_get (D := (dC, dI)) (ci := 0) (v := .ref (a 3)) (C := RX1) (T := TX1) (N := 19) hx hb hts in_X1 hown hK hP 0 rfl rfl 4 (by decide) (hts _ q30) (fun _ h9 => h9) rfl dX1_branch_1 ?_
  refine lv_iload_n hx hb dX1_branch_4 rfl (lv_at hl 2 rfl) ?_
  refine n_iald hx hb hK hP 3 0 rfl rfl l0 rfl (by omega) (by decide) dX1_branch_5 ?_
  refine lv_bipush (v := 31) hx hb dX1_branch_6 (by decide) ?_
  refine lv_iand hx hb dX1_branch_8 ?_
  refine n_topi (y := nI (m32 (fb l0))) (e32 _) ?_
  refine lv_istore (lv' := [(5, .int (nI (m32 (fb l0)))), (0, .ref (a 0)), (1, .int (nI k)), (2, .int (nI l0)), (3, .int zero), (4, .int oth)]) hx hb dX1_branch_9 hl (by decide) rfl (fun ls hl => ?_)
  refine lv_iload hx hb dX1_branch_11 (lv_at hl 5 rfl) ?_
  refine lv_if_ne (tgt := 27) hx hb dX1_branch_13 (by decide) (fun c1 => ?_) (fun c1 => ?_)
  · refine lv_iload_n hx hb dX1_branch_27 rfl (lv_at hl 4 rfl) ?_
    refine lv_if_ne (tgt := 43) hx hb dX1_branch_28 (by decide) (fun c2 => ?_) (fun c2 => ?_)
    · refine lv_aload_n hx hb dX1_branch_43 rfl (lv_at hl 1 rfl) ?_
      refine va_get (D := (dC, dI)) (ci := 0) (v := .ref (a 12)) (C := RX1) (T := TX1) (N := 19) hx hb hts in_X1 hown hK hP 0 rfl rfl 13 (by decide) (hts _ q39) (fun _ h9 => h9) rfl dX1_branch_44 ?_
      refine lv_iload_n hx hb dX1_branch_47 rfl (lv_at hl 3 rfl) ?_
      refine n_iald hx hb hK hP 12 0 rfl rfl l0 rfl (by omega) (by decide) dX1_branch_48 ?_
      refine lv_istore (lv' := [(6, .int (mt l0)), (5, .int (nI (m32 (fb l0)))), (0, .ref (a 0)), (1, .int (nI k)), (2, .int (nI l0)), (3, .int zero), (4, .int oth)]) hx hb dX1_branch_49 hl (by decide) rfl (fun ls hl => ?_)
      refine lv_aload_n hx hb dX1_branch_51 rfl (lv_at hl 2 rfl) ?_
      refine va_get (D := (dC, dI)) (ci := 0) (v := .ref (a 13)) (C := RX1) (T := TX1) (N := 19) hx hb hts in_X1 hown hK hP 0 rfl rfl 16 (by decide) (hts _ q42) (fun _ h9 => h9) rfl dX1_branch_52 ?_
      refine lv_iload_n hx hb dX1_branch_55 rfl (lv_at hl 3 rfl) ?_
      refine lv_iload hx hb dX1_branch_56 (lv_at hl 0 rfl) ?_
      refine n_iast hx hb hK hP hD hS 13 0 rfl rfl k rfl (by omega) (by decide) dX1_branch_58 (fun H locs hP hD hS => ?_)
      have hP : va_P (dC, dI) vwCl (w1 a cI cJ (nI T) (nI L) op fa fb fc inp out rg lo so st ps mt al (nI d) (upd pl k (mt l0)) pe pm) H := hP
      have hD : va_D A (w1 a cI cJ (nI T) (nI L) op fa fb fc inp out rg lo so st ps mt al (nI d) (upd pl k (mt l0)) pe pm) := hD
      refine lv_aload_n hx hb dX1_branch_59 rfl (lv_at hl 2 rfl) ?_
      refine lv_iload_n hx hb dX1_branch_60 rfl (lv_at hl 4 rfl) ?_
      refine lv_iconst (v := 1) hx hb dX1_branch_61 (by decide) ?_
      refine lv_iadd hx hb dX1_branch_62 ?_
      refine n_topi (y := nI (l0 + 1)) (nI_1 l0) ?_
      refine lv_iload hx hb dX1_branch_63 (lv_at hl 0 rfl) ?_
      refine lv_iload hx hb dX1_branch_65 (lv_at hl 6 rfl) ?_
      refine n_callv (As := [.int (nI (l0 + 1)), .int (mt l0), .int oth]) (rest := []) SF (mX1_pushPart l dC dI a cI cJ _ T L op fa fb fc inp out rg lo so st ps mt al (upd pl k (mt l0)) pe pm d (nI (l0 + 1)) (mt l0) oth (by omega)) (cwV 3 hts (lw_V q146 q148 qs10 q16 q149) rfl rfl rfl (by decide +kernel) ⟨Nat.le_of_ble_eq_true rfl, Nat.le_of_ble_eq_true rfl⟩) hK hP hD hS hA 0 0 rfl rfl rfl rfl hl.1 rfl (Nat.le_of_ble_eq_true rfl) dX1_branch_67 ⟨Nat.le_of_ble_eq_true rfl, Nat.le_of_ble_eq_true rfl⟩ (fun _ H locs _ hP hD hS => ?_)
      have hP : va_P (dC, dI) vwCl (w1 a cI cJ (nI T) (nI L) op fa fb fc inp out rg lo so st ps mt al (nI (d + 1)) (upd (upd pl k (mt l0)) d (nI (l0 + 1))) (upd pe d (mt l0)) (upd pm d oth)) H := hP
      have hD : va_D A (w1 a cI cJ (nI T) (nI L) op fa fb fc inp out rg lo so st ps mt al (nI (d + 1)) (upd (upd pl k (mt l0)) d (nI (l0 + 1))) (upd pe d (mt l0)) (upd pm d oth)) := hD
      refine lv_aload_n hx hb dX1_branch_70 rfl (lv_at hl 2 rfl) ?_
      refine lv_iload hx hb dX1_branch_71 (lv_at hl 1 rfl) ?_
      refine lv_iload hx hb dX1_branch_73 (lv_at hl 0 rfl) ?_
      refine lv_iload_n hx hb dX1_branch_75 rfl (lv_at hl 5 rfl) ?_
      refine n_callv (As := [.int (nI (m32 (fb l0))), .int (mt l0), .int zero]) (rest := []) SF (mX1_pushPart l dC dI a cI cJ _ T L op fa fb fc inp out rg lo so st ps mt al (upd (upd pl k (mt l0)) d (nI (l0 + 1))) (upd pe d (mt l0)) (upd pm d oth) (d + 1) (nI (m32 (fb l0))) (mt l0) zero (by omega)) (cwV 3 hts (lw_V q146 q148 qs10 q16 q149) rfl rfl rfl (by decide +kernel) ⟨Nat.le_of_ble_eq_true rfl, Nat.le_of_ble_eq_true rfl⟩) hK hP hD hS hA 0 0 rfl rfl rfl rfl hl.1 rfl (Nat.le_of_ble_eq_true rfl) dX1_branch_76 ⟨Nat.le_of_ble_eq_true rfl, Nat.le_of_ble_eq_true rfl⟩ (fun _ H locs _ hP hD hS => ?_)
      have hP : va_P (dC, dI) vwCl (w1 a cI cJ (nI T) (nI L) op fa fb fc inp out rg lo so st ps mt al (nI (d + 1 + 1)) (upd (upd (upd pl k (mt l0)) d (nI (l0 + 1))) (d + 1) (nI (m32 (fb l0)))) (upd (upd pe d (mt l0)) (d + 1) (mt l0)) (upd (upd pm d oth) (d + 1) zero)) H := hP
      have hD : va_D A (w1 a cI cJ (nI T) (nI L) op fa fb fc inp out rg lo so st ps mt al (nI (d + 1 + 1)) (upd (upd (upd pl k (mt l0)) d (nI (l0 + 1))) (d + 1) (nI (m32 (fb l0)))) (upd (upd pe d (mt l0)) (d + 1) (mt l0)) (upd (upd pm d oth) (d + 1) zero)) := hD
      exact W.vret hx hb hr (fun t9 h9 hW9 => ⟨⟨(d + 2, upd (upd (upd pl k (mt l0)) d (nI (l0 + 1))) (d + 1) (nI (m32 (fb l0))), upd (upd pe d (mt l0)) (d + 1) (mt l0), upd (upd pm d oth) (d + 1) zero), rfl, Or.inr (Or.inr ⟨c1, c2, rfl⟩), by rw [h9]; exact hP, va_K.moved hW9.alike hK, hD⟩, hS.F h9⟩) hS.2.2 dX1_branch_79
    · refine lv_aload_n hx hb dX1_branch_31 rfl (lv_at hl 1 rfl) ?_
      refine va_get (D := (dC, dI)) (ci := 0) (v := .ref (a 13)) (C := RX1) (T := TX1) (N := 19) hx hb hts in_X1 hown hK hP 0 rfl rfl 16 (by decide) (hts _ q42) (fun _ h9 => h9) rfl dX1_branch_32 ?_
      refine lv_iload_n hx hb dX1_branch_35 rfl (lv_at hl 2 rfl) ?_
      refine lv_iload_n hx hb dX1_branch_36 rfl (lv_at hl 3 rfl) ?_
      refine lv_iconst (v := 1) hx hb dX1_branch_37 (by decide) ?_
      refine lv_iadd hx hb dX1_branch_38 ?_
      refine n_topi (y := nI (l0 + 1)) (nI_1 l0) ?_
      refine n_iast hx hb hK hP hD hS 13 0 rfl rfl k rfl (by omega) (by decide) dX1_branch_39 (fun H locs hP hD hS => ?_)
      have hP : va_P (dC, dI) vwCl (w1 a cI cJ (nI T) (nI L) op fa fb fc inp out rg lo so st ps mt al (nI d) (upd pl k (nI (l0 + 1))) pe pm) H := hP
      have hD : va_D A (w1 a cI cJ (nI T) (nI L) op fa fb fc inp out rg lo so st ps mt al (nI d) (upd pl k (nI (l0 + 1))) pe pm) := hD
      refine lv_goto (tgt := 79) hx hb dX1_branch_40 (by decide) ?_
      exact W.vret hx hb hr (fun t9 h9 hW9 => ⟨⟨(d, upd pl k (nI (l0 + 1)), pe, pm), rfl, Or.inr (Or.inl ⟨c1, c2, rfl⟩), by rw [h9]; exact hP, va_K.moved hW9.alike hK, hD⟩, hS.F h9⟩) hS.2.2 dX1_branch_79
  · refine lv_aload_n hx hb dX1_branch_16 rfl (lv_at hl 1 rfl) ?_
    refine va_get (D := (dC, dI)) (ci := 0) (v := .ref (a 13)) (C := RX1) (T := TX1) (N := 19) hx hb hts in_X1 hown hK hP 0 rfl rfl 16 (by decide) (hts _ q42) (fun _ h9 => h9) rfl dX1_branch_17 ?_
    refine lv_iload_n hx hb dX1_branch_20 rfl (lv_at hl 2 rfl) ?_
    refine lv_iload hx hb dX1_branch_21 (lv_at hl 0 rfl) ?_
    refine n_iast hx hb hK hP hD hS 13 0 rfl rfl k rfl (by omega) (by decide) dX1_branch_23 (fun H locs hP hD hS => ?_)
    have hP : va_P (dC, dI) vwCl (w1 a cI cJ (nI T) (nI L) op fa fb fc inp out rg lo so st ps mt al (nI d) (upd pl k (nI (m32 (fb l0)))) pe pm) H := hP
    have hD : va_D A (w1 a cI cJ (nI T) (nI L) op fa fb fc inp out rg lo so st ps mt al (nI d) (upd pl k (nI (m32 (fb l0)))) pe pm) := hD
    refine lv_goto (tgt := 79) hx hb dX1_branch_24 (by decide) ?_
    exact W.vret hx hb hr (fun t9 h9 hW9 => ⟨⟨(d, upd pl k (nI (m32 (fb l0))), pe, pm), rfl, Or.inl ⟨c1, rfl⟩, by rw [h9]; exact hP, va_K.moved hW9.alike hK, hD⟩, hS.F h9⟩) hS.2.2 dX1_branch_79
end
section
/-! contracts: carryOut, stepWarp of WarpMachine -/
section CarryOut
variable {p : Program} {l : Launch} {e : Env} {R : Room} {s : State} {m : MethodId} {args : Array Value} {below : List Frame} {meth : Method} {c : Code} {Q : State → Prop} {A : Nat → Prop} {dC : Nat → ClassId} {dI : Nat → Nat → Nat} {a : Nat → Nat} {cI cJ : ClassId}
set_option maxHeartbeats 4000000 in
set_option maxRecDepth 100000 in
theorem lpX1_carryOut (SF : CallFix p m c cX1_carryOut 7 s args lw_all RX1) (hK : va_K (dC, dI) vwCl (tyL cI cJ) s) (hA : ∀ q : Nat, s.heap.size ≤ q → A q) (T L l0 : Nat) (hT : T ≤ 8) (hl0 : l0 < 32) (op fa fb fc inp out rg lo so st : Nat → Int32) (ps : Nat → Int64) (mt : Nat → Int32) (al dp : Int32) (pl pe pm : Nat → Int32) (tp mk0 : Int32) 
    (kk : ∀ (H : Heap) (locs : List Loc) (ls : Array Slot), va_P (dC, dI) vwCl (w1 a cI cJ (nI T) (nI L) op fa fb fc inp (coO (op, fa, fb, fc, inp, L) (op l0) l0 mk0 rg out T) (coR (op, fa, fb, fc, inp, L) (op l0) l0 mk0 rg T) lo (coS mk0 so T) st ps mt al dp pl pe pm) H → va_D A (w1 a cI cJ (nI T) (nI L) op fa fb fc inp (coO (op, fa, fb, fc, inp, L) (op l0) l0 mk0 rg out T) (coR (op, fa, fb, fc, inp, L) (op l0) l0 mk0 rg T) lo (coS mk0 so T) st ps mt al dp pl pe pm) → va_S A s.heap H locs → lv_has ls 7 [(6, .int (nI T)), (5, .int (coZ (op, fa, fb, fc, inp, L) (op l0) l0 mk0 rg T)), (0, .ref (a 0)), (1, .int tp), (2, .int (nI l0)), (3, .int mk0), (4, .int (op l0))] → W p l e ({ frames := 2, cells := 0, slots := 0, locals := 49 } : Room) s m args below meth c H locs 0 0 Q (F0 m 92 ls [])) :
    ∀ (n i : Nat), i + n = T → ∀ (H : Heap) (locs : List Loc) (ls : Array Slot), va_P (dC, dI) vwCl (w1 a cI cJ (nI T) (nI L) op fa fb fc inp (coO (op, fa, fb, fc, inp, L) (op l0) l0 mk0 rg out i) (coR (op, fa, fb, fc, inp, L) (op l0) l0 mk0 rg i) lo (coS mk0 so i) st ps mt al dp pl pe pm) H → va_D A (w1 a cI cJ (nI T) (nI L) op fa fb fc inp (coO (op, fa, fb, fc, inp, L) (op l0) l0 mk0 rg out i) (coR (op, fa, fb, fc, inp, L) (op l0) l0 mk0 rg i) lo (coS mk0 so i) st ps mt al dp pl pe pm) → va_S A s.heap H locs → lv_has ls 7 [(6, .int (nI i)), (5, .int (coZ (op, fa, fb, fc, inp, L) (op l0) l0 mk0 rg i)), (0, .ref (a 0)), (1, .int tp), (2, .int (nI l0)), (3, .int mk0), (4, .int (op l0))] → W p l e ({ frames := 2, cells := 0, slots := 0, locals := 49 } : Room) s m args below meth c H locs 0 0 Q (F0 m 14 ls []) := by
  obtain ⟨hx, hb, hml, hown, hts⟩ := id SF
  intro n
  induction n with
  | zero =>
    intro i hi H locs ls hP hD hS hl
    refine lv_iload hx hb dX1_carryOut_14 (lv_at hl 0 rfl) ?_
    refine lv_aload_n hx hb dX1_carryOut_16 rfl (lv_at hl 2 rfl) ?_
    refine va_get (D := (dC, dI)) (ci := 0) (v := .int (nI T)) (C := RX1) (T := TX1) (N := 19) hx hb hts in_X1 hown hK hP 0 rfl rfl 0 (by decide) (hts _ q26) (fun _ h9 => h9) rfl dX1_carryOut_17 ?_
    refine lv_icmp_ge (tgt := 92) hx hb dX1_carryOut_20 (by decide) (fun cz => ?_) (fun cz => ?_)
    · obtain rfl : i = T := by omega
      exact kk H locs ls hP hD hS hl
    · exact absurd (nI_le (a := T) (b := i) (by omega) (by omega)) cz
  | succ n ih =>
    intro i hi H locs ls hP hD hS hl
    refine lv_iload hx hb dX1_carryOut_14 (lv_at hl 0 rfl) ?_
    refine lv_aload_n hx hb dX1_carryOut_16 rfl (lv_at hl 2 rfl) ?_
    refine va_get (D := (dC, dI)) (ci := 0) (v := .int (nI T)) (C := RX1) (T := TX1) (N := 19) hx hb hts in_X1 hown hK hP 0 rfl rfl 0 (by decide) (hts _ q26) (fun _ h9 => h9) rfl dX1_carryOut_17 ?_
    refine lv_icmp_ge (tgt := 92) hx hb dX1_carryOut_20 (by decide) (fun cs => ?_) (fun cs => ?_)
    · exact absurd cs (nI_ge (a := i) (b := T) (by omega) (by omega))
    · refine lv_iload_n hx hb dX1_carryOut_23 rfl (lv_at hl 5 rfl) ?_
      refine lv_iload hx hb dX1_carryOut_24 (lv_at hl 0 rfl) ?_
      refine lv_iushr hx hb dX1_carryOut_26 rfl ?_
      refine lv_iconst (v := 1) hx hb dX1_carryOut_27 (by decide) ?_
      refine lv_iand hx hb dX1_carryOut_28 ?_
      refine lv_if_eq (tgt := 86) hx hb dX1_carryOut_29 (by decide) (fun cb => ?_) (fun cb => ?_)
      · have hbit : bt mk0 i = false := (z_test mk0 i (by omega)).mp cb
        rw [show coS mk0 so i = coS mk0 so (i + 1) from coS_f hbit so] at hP hD
        rw [show coR (op, fa, fb, fc, inp, L) (op l0) l0 mk0 rg i = coR (op, fa, fb, fc, inp, L) (op l0) l0 mk0 rg (i + 1) from coR_f hbit] at hP hD
        rw [show coO (op, fa, fb, fc, inp, L) (op l0) l0 mk0 rg out i = coO (op, fa, fb, fc, inp, L) (op l0) l0 mk0 rg out (i + 1) from coO_f hbit] at hP hD
        rw [show coZ (op, fa, fb, fc, inp, L) (op l0) l0 mk0 rg i = coZ (op, fa, fb, fc, inp, L) (op l0) l0 mk0 rg (i + 1) from coZ_f hbit] at hl
        refine lv_iinc (v := nI (i + 1)) (lv' := [(6, .int (nI (i + 1))), (5, .int (coZ (op, fa, fb, fc, inp, L) (op l0) l0 mk0 rg (i + 1))), (0, .ref (a 0)), (1, .int tp), (2, .int (nI l0)), (3, .int mk0), (4, .int (op l0))]) hx hb dX1_carryOut_86 hl (k := 0) rfl (nI_1 _) (by decide) rfl (fun ls hl => ?_)
        refine lv_goto (tgt := 14) hx hb dX1_carryOut_89 (by decide) ?_
        exact ih (i + 1) (by omega) H locs ls hP hD hS hl
      · have hbit : bt mk0 i = true := z_tt (fun q => cb ((z_test mk0 i (by omega)).mpr q))
        have h4a := m4_lt (fa l0)
        refine lv_aload_n hx hb dX1_carryOut_32 rfl (lv_at hl 2 rfl) ?_
        refine va_get (D := (dC, dI)) (ci := 0) (v := .ref (a 9)) (C := RX1) (T := TX1) (N := 19) hx hb hts in_X1 hown hK hP 0 rfl rfl 10 (by decide) (hts _ q36) (fun _ h9 => h9) rfl dX1_carryOut_33 ?_
        refine lv_iload hx hb dX1_carryOut_36 (lv_at hl 0 rfl) ?_
        refine lv_dup2_11 hx hb dX1_carryOut_38 rfl rfl ?_
        refine n_iald hx hb hK hP 9 0 rfl rfl i rfl (by omega) (by decide) dX1_carryOut_39 ?_
        refine lv_iconst (v := 1) hx hb dX1_carryOut_40 (by decide) ?_
        refine lv_iadd hx hb dX1_carryOut_41 ?_
        refine n_iast hx hb hK hP hD hS 9 0 rfl rfl i rfl (by omega) (by decide) dX1_carryOut_42 (fun H locs hP hD hS => ?_)
        have hP : va_P (dC, dI) vwCl (w1 a cI cJ (nI T) (nI L) op fa fb fc inp (coO (op, fa, fb, fc, inp, L) (op l0) l0 mk0 rg out i) (coR (op, fa, fb, fc, inp, L) (op l0) l0 mk0 rg i) lo (upd (coS mk0 so i) i (((coS mk0 so i) i) + 1)) st ps mt al dp pl pe pm) H := hP
        have hD : va_D A (w1 a cI cJ (nI T) (nI L) op fa fb fc inp (coO (op, fa, fb, fc, inp, L) (op l0) l0 mk0 rg out i) (coR (op, fa, fb, fc, inp, L) (op l0) l0 mk0 rg i) lo (upd (coS mk0 so i) i (((coS mk0 so i) i) + 1)) st ps mt al dp pl pe pm) := hD
        rw [show upd (coS mk0 so i) i (((coS mk0 so i) i) + 1) = coS mk0 so (i + 1) from coS_t hbit so] at hP hD
        refine lv_iload hx hb dX1_carryOut_43 (lv_at hl 1 rfl) ?_
        refine lv_aload_n hx hb dX1_carryOut_45 rfl (lv_at hl 2 rfl) ?_
        refine va_get (D := (dC, dI)) (ci := 0) (v := .ref (a 7)) (C := RX1) (T := TX1) (N := 19) hx hb hts in_X1 hown hK hP 0 rfl rfl 8 (by decide) (hts _ q34) (fun _ h9 => h9) rfl dX1_carryOut_46 ?_
        refine lv_iconst (v := 4) hx hb dX1_carryOut_49 (by decide) ?_
        refine lv_iload hx hb dX1_carryOut_50 (lv_at hl 0 rfl) ?_
        refine lv_imul hx hb dX1_carryOut_52 ?_
        refine lv_aload_n hx hb dX1_carryOut_53 rfl (lv_at hl 2 rfl) ?_
        refine va_get (D := (dC, dI)) (ci := 0) (v := .ref (a 2)) (C := RX1) (T := TX1) (N := 19) hx hb hts in_X1 hown hK hP 0 rfl rfl 3 (by decide) (hts _ q29) (fun _ h9 => h9) rfl dX1_carryOut_54 ?_
        refine lv_iload_n hx hb dX1_carryOut_57 rfl (lv_at hl 4 rfl) ?_
        refine n_iald hx hb hK hP 2 0 rfl rfl l0 rfl (by omega) (by decide) dX1_carryOut_58 ?_
        refine lv_iconst (v := 3) hx hb dX1_carryOut_59 (by decide) ?_
        refine lv_iand hx hb dX1_carryOut_60 ?_
        refine lv_iadd hx hb dX1_carryOut_61 ?_
        refine n_iald hx hb hK hP 7 0 rfl rfl (4 * i + m4 (fa l0)) (i4 i (fa l0)) (by omega) (by decide) dX1_carryOut_62 ?_
        refine lv_if_ne (tgt := 73) hx hb dX1_carryOut_63 (by decide) (fun cq => ?_) (fun cq => ?_)
        · refine lv_iconst (v := 0) hx hb dX1_carryOut_73 (by decide) ?_
          refine lv_ior hx hb dX1_carryOut_74 ?_
          refine n_topi (y := coZ (op, fa, fb, fc, inp, L) (op l0) l0 mk0 rg (i + 1)) (coZ_n hbit cq) ?_
          refine lv_istore (lv' := [(5, .int (coZ (op, fa, fb, fc, inp, L) (op l0) l0 mk0 rg (i + 1))), (6, .int (nI i)), (0, .ref (a 0)), (1, .int tp), (2, .int (nI l0)), (3, .int mk0), (4, .int (op l0))]) hx hb dX1_carryOut_75 hl (by decide) rfl (fun ls hl => ?_)
          refine lv_aload_n hx hb dX1_carryOut_77 rfl (lv_at hl 2 rfl) ?_
          refine lv_iload hx hb dX1_carryOut_78 (lv_at hl 1 rfl) ?_
          refine lv_iload hx hb dX1_carryOut_80 (lv_at hl 6 rfl) ?_
          refine lv_iload_n hx hb dX1_carryOut_82 rfl (lv_at hl 4 rfl) ?_
          refine n_callv (As := [.int (nI i), .int (op l0), .int (nI l0)]) (rest := []) SF (mX1_work l dC dI a cI cJ _ T L op fa fb fc inp (coO (op, fa, fb, fc, inp, L) (op l0) l0 mk0 rg out i) (coR (op, fa, fb, fc, inp, L) (op l0) l0 mk0 rg i) lo (coS mk0 so (i + 1)) st ps mt al dp pl pe pm i l0 (op l0) (by omega) hl0) (cwV 3 hts (lw_V q135 q137 qs8 q16 q138) rfl rfl rfl (by decide +kernel) ⟨Nat.le_of_ble_eq_true rfl, Nat.le_of_ble_eq_true rfl⟩) hK hP hD hS hA 0 0 rfl rfl rfl rfl hl.1 rfl (Nat.le_of_ble_eq_true rfl) dX1_carryOut_83 ⟨Nat.le_of_ble_eq_true rfl, Nat.le_of_ble_eq_true rfl⟩ (fun _ H locs _ hP hD hS => ?_)
          have hP : va_P (dC, dI) vwCl (w1 a cI cJ (nI T) (nI L) op fa fb fc inp (wkO (op, fa, fb, fc, inp, L) (op l0) i l0 (coR (op, fa, fb, fc, inp, L) (op l0) l0 mk0 rg i) (coO (op, fa, fb, fc, inp, L) (op l0) l0 mk0 rg out i)) (wkR (op, fa, fb, fc, inp, L) (op l0) i l0 (coR (op, fa, fb, fc, inp, L) (op l0) l0 mk0 rg i)) lo (coS mk0 so (i + 1)) st ps mt al dp pl pe pm) H := hP
          have hD : va_D A (w1 a cI cJ (nI T) (nI L) op fa fb fc inp (wkO (op, fa, fb, fc, inp, L) (op l0) i l0 (coR (op, fa, fb, fc, inp, L) (op l0) l0 mk0 rg i) (coO (op, fa, fb, fc, inp, L) (op l0) l0 mk0 rg out i)) (wkR (op, fa, fb, fc, inp, L) (op l0) i l0 (coR (op, fa, fb, fc, inp, L) (op l0) l0 mk0 rg i)) lo (coS mk0 so (i + 1)) st ps mt al dp pl pe pm) := hD
          rw [show wkO (op, fa, fb, fc, inp, L) (op l0) i l0 (coR (op, fa, fb, fc, inp, L) (op l0) l0 mk0 rg i) (coO (op, fa, fb, fc, inp, L) (op l0) l0 mk0 rg out i) = coO (op, fa, fb, fc, inp, L) (op l0) l0 mk0 rg out (i + 1) from coO_t hbit] at hP hD
          rw [show wkR (op, fa, fb, fc, inp, L) (op l0) i l0 (coR (op, fa, fb, fc, inp, L) (op l0) l0 mk0 rg i) = coR (op, fa, fb, fc, inp, L) (op l0) l0 mk0 rg (i + 1) from coR_t hbit] at hP hD
          refine lv_iinc (v := nI (i + 1)) (lv' := [(6, .int (nI (i + 1))), (5, .int (coZ (op, fa, fb, fc, inp, L) (op l0) l0 mk0 rg (i + 1))), (0, .ref (a 0)), (1, .int tp), (2, .int (nI l0)), (3, .int mk0), (4, .int (op l0))]) hx hb dX1_carryOut_86 hl (k := 1) rfl (nI_1 _) (by decide) rfl (fun ls hl => ?_)
          refine lv_goto (tgt := 14) hx hb dX1_carryOut_89 (by decide) ?_
          exact ih (i + 1) (by omega) H locs ls hP hD hS hl
        · refine lv_iconst (v := 1) hx hb dX1_carryOut_66 (by decide) ?_
          refine lv_iload hx hb dX1_carryOut_67 (lv_at hl 0 rfl) ?_
          refine lv_ishl hx hb dX1_carryOut_69 ?_
          refine lv_goto (tgt := 74) hx hb dX1_carryOut_70 (by decide) ?_
          refine lv_ior hx hb dX1_carryOut_74 ?_
          refine n_topi (y := coZ (op, fa, fb, fc, inp, L) (op l0) l0 mk0 rg (i + 1)) (coZ_y hbit cq) ?_
          refine lv_istore (lv' := [(5, .int (coZ (op, fa, fb, fc, inp, L) (op l0) l0 mk0 rg (i + 1))), (6, .int (nI i)), (0, .ref (a 0)), (1, .int tp), (2, .int (nI l0)), (3, .int mk0), (4, .int (op l0))]) hx hb dX1_carryOut_75 hl (by decide) rfl (fun ls hl => ?_)
          refine lv_aload_n hx hb dX1_carryOut_77 rfl (lv_at hl 2 rfl) ?_
          refine lv_iload hx hb dX1_carryOut_78 (lv_at hl 1 rfl) ?_
          refine lv_iload hx hb dX1_carryOut_80 (lv_at hl 6 rfl) ?_
          refine lv_iload_n hx hb dX1_carryOut_82 rfl (lv_at hl 4 rfl) ?_
          refine n_callv (As := [.int (nI i), .int (op l0), .int (nI l0)]) (rest := []) SF (mX1_work l dC dI a cI cJ _ T L op fa fb fc inp (coO (op, fa, fb, fc, inp, L) (op l0) l0 mk0 rg out i) (coR (op, fa, fb, fc, inp, L) (op l0) l0 mk0 rg i) lo (coS mk0 so (i + 1)) st ps mt al dp pl pe pm i l0 (op l0) (by omega) hl0) (cwV 3 hts (lw_V q135 q137 qs8 q16 q138) rfl rfl rfl (by decide +kernel) ⟨Nat.le_of_ble_eq_true rfl, Nat.le_of_ble_eq_true rfl⟩) hK hP hD hS hA 0 0 rfl rfl rfl rfl hl.1 rfl (Nat.le_of_ble_eq_true rfl) dX1_carryOut_83 ⟨Nat.le_of_ble_eq_true rfl, Nat.le_of_ble_eq_true rfl⟩ (fun _ H locs _ hP hD hS => ?_)
          have hP : va_P (dC, dI) vwCl (w1 a cI cJ (nI T) (nI L) op fa fb fc inp (wkO (op, fa, fb, fc, inp, L) (op l0) i l0 (coR (op, fa, fb, fc, inp, L) (op l0) l0 mk0 rg i) (coO (op, fa, fb, fc, inp, L) (op l0) l0 mk0 rg out i)) (wkR (op, fa, fb, fc, inp, L) (op l0) i l0 (coR (op, fa, fb, fc, inp, L) (op l0) l0 mk0 rg i)) lo (coS mk0 so (i + 1)) st ps mt al dp pl pe pm) H := hP
          have hD : va_D A (w1 a cI cJ (nI T) (nI L) op fa fb fc inp (wkO (op, fa, fb, fc, inp, L) (op l0) i l0 (coR (op, fa, fb, fc, inp, L) (op l0) l0 mk0 rg i) (coO (op, fa, fb, fc, inp, L) (op l0) l0 mk0 rg out i)) (wkR (op, fa, fb, fc, inp, L) (op l0) i l0 (coR (op, fa, fb, fc, inp, L) (op l0) l0 mk0 rg i)) lo (coS mk0 so (i + 1)) st ps mt al dp pl pe pm) := hD
          rw [show wkO (op, fa, fb, fc, inp, L) (op l0) i l0 (coR (op, fa, fb, fc, inp, L) (op l0) l0 mk0 rg i) (coO (op, fa, fb, fc, inp, L) (op l0) l0 mk0 rg out i) = coO (op, fa, fb, fc, inp, L) (op l0) l0 mk0 rg out (i + 1) from coO_t hbit] at hP hD
          rw [show wkR (op, fa, fb, fc, inp, L) (op l0) i l0 (coR (op, fa, fb, fc, inp, L) (op l0) l0 mk0 rg i) = coR (op, fa, fb, fc, inp, L) (op l0) l0 mk0 rg (i + 1) from coR_t hbit] at hP hD
          refine lv_iinc (v := nI (i + 1)) (lv' := [(6, .int (nI (i + 1))), (5, .int (coZ (op, fa, fb, fc, inp, L) (op l0) l0 mk0 rg (i + 1))), (0, .ref (a 0)), (1, .int tp), (2, .int (nI l0)), (3, .int mk0), (4, .int (op l0))]) hx hb dX1_carryOut_86 hl (k := 1) rfl (nI_1 _) (by decide) rfl (fun ls hl => ?_)
          refine lv_goto (tgt := 14) hx hb dX1_carryOut_89 (by decide) ?_
          exact ih (i + 1) (by omega) H locs ls hP hD hS hl
end CarryOut
set_option maxHeartbeats 4000000 in
set_option maxRecDepth 100000 in
theorem mX1_carryOut (l : Launch) (dC : Nat → ClassId) (dI : Nat → Nat → Nat) (a : Nat → Nat) (cI cJ : ClassId) (sz : Nat) (T L : Nat) (op fa fb fc inp out rg lo so st : Nat → Int32) (ps : Nat → Int64) (mt : Nat → Int32) (al : Int32) (pl pe pm : Nat → Int32) (k l0 d : Nat) (mk0 : Int32) (hT : T ≤ 8) (hk : k < 32) (hl0 : l0 < 32) (hd : d < 31) : Met l yX1_carryOut (ws_ yX1_carryOut cX1_carryOut 7 none) ({ frames := 2, cells := 0, slots := 0, locals := 49 } : Room) (va_Pc [.ref (a 0), .int (nI k), .int (nI l0), .int mk0] (prW dC dI (tyL cI cJ) sz (w1 a cI cJ (nI T) (nI L) op fa fb fc inp out rg lo so st ps mt al (nI d) pl pe pm))) (va_Qv (fun u => caR (op, fa, fb, fc, inp, L) mt T k l0 d mk0 rg lo st al pl pe pm u) (fun u => poW dC dI (tyL cI cJ) (va_A (w1 a cI cJ (nI T) (nI L) op fa fb fc inp out rg lo so st ps mt al (nI d) pl pe pm) sz) (w1 a cI cJ (nI T) (nI L) op fa fb fc inp (coO (op, fa, fb, fc, inp, L) (op l0) l0 mk0 rg out T) (coR (op, fa, fb, fc, inp, L) (op l0) l0 mk0 rg T) u.1 (coS mk0 so T) u.2.1 ps mt u.2.2.1 (nI u.2.2.2.1) u.2.2.2.2.1 u.2.2.2.2.2.1 u.2.2.2.2.2.2)) (va_A (w1 a cI cJ (nI T) (nI L) op fa fb fc inp out rg lo so st ps mt al (nI d) pl pe pm) sz)) 0 0 (va_A (w1 a cI cJ (nI T) (nI L) op fa fb fc inp out rg lo so st ps mt al (nI d) pl pe pm) sz) := by
  refine n_met (by decide) (Nat.le_of_ble_eq_true rfl) ?_
  intro p e s m below meth c ls SF hr hlocks hnm hsz hK hP hD hA hl
  subst hsz
  have hS : va_S (va_A (w1 a cI cJ (nI T) (nI L) op fa fb fc inp out rg lo so st ps mt al (nI d) pl pe pm) s.heap.size) s.heap s.heap [] := va_S.rf
  generalize va_A (w1 a cI cJ (nI T) (nI L) op fa fb fc inp out rg lo so st ps mt al (nI d) pl pe pm) s.heap.size = A at hD hA hS ⊢
  obtain ⟨hx, hb, hml, hown, hts⟩ := id SF
  have hown : s.vm.findClass RX1 = some m.cls := hown
  have SF : CallFix p m c cX1_carryOut 7 s _ lw_all RX1 := SF
  have hl : lv_has ls 7 [(0, .ref (a 0)), (1, .int (nI k)), (2, .int (nI l0)), (3, .int mk0)] := hl
  refine lv_aload_n hx hb dX1_carryOut_0 rfl (lv_at hl 0 rfl) ?_
  refine va_get (D := (dC, dI)) (ci := 0) (v := .ref (a 1)) (C := RX1) (T := TX1) (N := 19) hx hb hts in_X1 hown hK hP 0 rfl rfl 2 (by decide) (hts _ q28) (fun _ h9 => h9) rfl dX1_carryOut_1 ?_
  refine lv_iload_n hx hb dX1_carryOut_4 rfl (lv_at hl 2 rfl) ?_
  refine n_iald hx hb hK hP 1 0 rfl rfl l0 rfl (by omega) (by decide) dX1_carryOut_5 ?_
  refine lv_istore (lv' := [(4, .int (op l0)), (0, .ref (a 0)), (1, .int (nI k)), (2, .int (nI l0)), (3, .int mk0)]) hx hb dX1_carryOut_6 hl (by decide) rfl (fun ls hl => ?_)
  refine lv_iconst (v := 0) hx hb dX1_carryOut_8 (by decide) ?_
  refine lv_istore (lv' := [(5, .int 0), (4, .int (op l0)), (0, .ref (a 0)), (1, .int (nI k)), (2, .int (nI l0)), (3, .int mk0)]) hx hb dX1_carryOut_9 hl (by decide) rfl (fun ls hl => ?_)
  refine lv_iconst (v := 0) hx hb dX1_carryOut_11 (by decide) ?_
  refine lv_istore (lv' := [(6, .int 0), (5, .int 0), (4, .int (op l0)), (0, .ref (a 0)), (1, .int (nI k)), (2, .int (nI l0)), (3, .int mk0)]) hx hb dX1_carryOut_12 hl (by decide) rfl (fun ls hl => ?_)
  refine lpX1_carryOut SF hK hA T L l0 hT hl0 op fa fb fc inp out rg lo so st ps mt al (nI d) pl pe pm (nI k) mk0 ?_ T 0 (by omega) _ _ _ (by rw [coS_0]; exact hP) (by rw [coS_0]; exact hD) hS (lv_sub hl [0, 1, 3, 4, 5, 6, 2] rfl)
  intro H locs ls hP hD hS hl
  refine lv_iload hx hb dX1_carryOut_92 (lv_at hl 6 rfl) ?_
  refine lv_bipush (v := 11) hx hb dX1_carryOut_94 (by decide) ?_
  refine lv_icmp_ne (tgt := 109) hx hb dX1_carryOut_96 (by decide) (fun c11 => ?_) (fun c11 => ?_)
  · refine lv_iload hx hb dX1_carryOut_109 (lv_at hl 6 rfl) ?_
    refine lv_bipush (v := 9) hx hb dX1_carryOut_111 (by decide) ?_
    refine lv_icmp_ne (tgt := 134) hx hb dX1_carryOut_113 (by decide) (fun c9 => ?_) (fun c9 => ?_)
    · refine lv_iload hx hb dX1_carryOut_134 (lv_at hl 6 rfl) ?_
      refine lv_bipush (v := 10) hx hb dX1_carryOut_136 (by decide) ?_
      refine lv_icmp_ne (tgt := 158) hx hb dX1_carryOut_138 (by decide) (fun c10 => ?_) (fun c10 => ?_)
      · refine lv_aload_n hx hb dX1_carryOut_158 rfl (lv_at hl 2 rfl) ?_
        refine va_get (D := (dC, dI)) (ci := 0) (v := .ref (a 13)) (C := RX1) (T := TX1) (N := 19) hx hb hts in_X1 hown hK hP 0 rfl rfl 16 (by decide) (hts _ q42) (fun _ h9 => h9) rfl dX1_carryOut_159 ?_
        refine lv_iload_n hx hb dX1_carryOut_162 rfl (lv_at hl 3 rfl) ?_
        refine lv_iload_n hx hb dX1_carryOut_163 rfl (lv_at hl 4 rfl) ?_
        refine lv_iconst (v := 1) hx hb dX1_carryOut_164 (by decide) ?_
        refine lv_iadd hx hb dX1_carryOut_165 ?_
        refine n_topi (y := nI (l0 + 1)) (nI_1 l0) ?_
        refine n_iast hx hb hK hP hD hS 13 0 rfl rfl k rfl (by omega) (by decide) dX1_carryOut_166 (fun H locs hP hD hS => ?_)
        have hP : va_P (dC, dI) vwCl (w1 a cI cJ (nI T) (nI L) op fa fb fc inp (coO (op, fa, fb, fc, inp, L) (op l0) l0 mk0 rg out T) (coR (op, fa, fb, fc, inp, L) (op l0) l0 mk0 rg T) lo (coS mk0 so T) st ps mt al (nI d) (upd pl k (nI (l0 + 1))) pe pm) H := hP
        have hD : va_D A (w1 a cI cJ (nI T) (nI L) op fa fb fc inp (coO (op, fa, fb, fc, inp, L) (op l0) l0 mk0 rg out T) (coR (op, fa, fb, fc, inp, L) (op l0) l0 mk0 rg T) lo (coS mk0 so T) st ps mt al (nI d) (upd pl k (nI (l0 + 1))) pe pm) := hD
        exact W.vret hx hb hr (fun t9 h9 hW9 => ⟨⟨(lo, st, al, d, upd pl k (nI (l0 + 1)), pe, pm), rfl, Or.inr (Or.inr (Or.inr ⟨c11, c9, c10, rfl⟩)), by rw [h9]; exact hP, va_K.moved hW9.alike hK, hD⟩, hS.F h9⟩) hS.2.2 dX1_carryOut_167
      · refine lv_aload_n hx hb dX1_carryOut_141 rfl (lv_at hl 2 rfl) ?_
        refine lv_iload_n hx hb dX1_carryOut_142 rfl (lv_at hl 3 rfl) ?_
        refine lv_iload_n hx hb dX1_carryOut_143 rfl (lv_at hl 4 rfl) ?_
        refine lv_iload hx hb dX1_carryOut_144 (lv_at hl 1 rfl) ?_
        refine lv_iload_n hx hb dX1_carryOut_146 rfl (lv_at hl 5 rfl) ?_
        refine lv_iload hx hb dX1_carryOut_147 (lv_at hl 1 rfl) ?_
        refine lv_iconst (v := (-1)) hx hb dX1_carryOut_149 (by decide) ?_
        refine lv_ixor hx hb dX1_carryOut_150 ?_
        refine lv_iand hx hb dX1_carryOut_151 ?_
        refine n_callv (As := [.int (nI k), .int (nI l0), .int (coZ (op, fa, fb, fc, inp, L) (op l0) l0 mk0 rg T), .int (mk0 &&& ((coZ (op, fa, fb, fc, inp, L) (op l0) l0 mk0 rg T) ^^^ (-1)))]) (rest := []) SF (mX1_branch l dC dI a cI cJ _ T L op fa fb fc inp (coO (op, fa, fb, fc, inp, L) (op l0) l0 mk0 rg out T) (coR (op, fa, fb, fc, inp, L) (op l0) l0 mk0 rg T) lo (coS mk0 so T) st ps mt al pl pe pm k l0 d (coZ (op, fa, fb, fc, inp, L) (op l0) l0 mk0 rg T) (mk0 &&& ((coZ (op, fa, fb, fc, inp, L) (op l0) l0 mk0 rg T) ^^^ (-1))) hk hl0 hd) (cwV 4 hts (lw_V q142 q144 qs9 q16 q145) rfl rfl rfl (by decide +kernel) ⟨Nat.le_of_ble_eq_true rfl, Nat.le_of_ble_eq_true rfl⟩) hK hP hD hS hA 0 0 rfl rfl rfl rfl hl.1 rfl (Nat.le_of_ble_eq_true rfl) dX1_carryOut_152 ⟨Nat.le_of_ble_eq_true rfl, Nat.le_of_ble_eq_true rfl⟩ (fun u H locs hu hP hD hS => ?_)
        have hP : va_P (dC, dI) vwCl (w1 a cI cJ (nI T) (nI L) op fa fb fc inp (coO (op, fa, fb, fc, inp, L) (op l0) l0 mk0 rg out T) (coR (op, fa, fb, fc, inp, L) (op l0) l0 mk0 rg T) lo (coS mk0 so T) st ps mt al (nI u.1) u.2.1 u.2.2.1 u.2.2.2) H := hP
        have hD : va_D A (w1 a cI cJ (nI T) (nI L) op fa fb fc inp (coO (op, fa, fb, fc, inp, L) (op l0) l0 mk0 rg out T) (coR (op, fa, fb, fc, inp, L) (op l0) l0 mk0 rg T) lo (coS mk0 so T) st ps mt al (nI u.1) u.2.1 u.2.2.1 u.2.2.2) := hD
        refine lv_goto (tgt := 167) hx hb dX1_carryOut_155 (by decide) ?_
        exact W.vret hx hb hr (fun t9 h9 hW9 => ⟨⟨(lo, st, al, u), rfl, Or.inr (Or.inr (Or.inl ⟨c10, u, hu, rfl⟩)), by rw [h9]; exact hP, va_K.moved hW9.alike hK, hD⟩, hS.F h9⟩) hS.2.2 dX1_carryOut_167
    · refine lv_aload_n hx hb dX1_carryOut_116 rfl (lv_at hl 2 rfl) ?_
      refine va_get (D := (dC, dI)) (ci := 0) (v := .ref (a 13)) (C := RX1) (T := TX1) (N := 19) hx hb hts in_X1 hown hK hP 0 rfl rfl 16 (by decide) (hts _ q42) (fun _ h9 => h9) rfl dX1_carryOut_117 ?_
      refine lv_iload_n hx hb dX1_carryOut_120 rfl (lv_at hl 3 rfl) ?_
      refine lv_aload_n hx hb dX1_carryOut_121 rfl (lv_at hl 2 rfl) ?_
      refine va_get (D := (dC, dI)) (ci := 0) (v := .ref (a 3)) (C := RX1) (T := TX1) (N := 19) hx hb hts in_X1 hown hK hP 0 rfl rfl 4 (by decide) (hts _ q30) (fun _ h9 => h9) rfl dX1_carryOut_122 ?_
      refine lv_iload_n hx hb dX1_carryOut_125 rfl (lv_at hl 4 rfl) ?_
      refine n_iald hx hb hK hP 3 0 rfl rfl l0 rfl (by omega) (by decide) dX1_carryOut_126 ?_
      refine lv_bipush (v := 31) hx hb dX1_carryOut_127 (by decide) ?_
      refine lv_iand hx hb dX1_carryOut_129 ?_
      refine n_topi (y := nI (m32 (fb l0))) (e32 _) ?_
      refine n_iast hx hb hK hP hD hS 13 0 rfl rfl k rfl (by omega) (by decide) dX1_carryOut_130 (fun H locs hP hD hS => ?_)
      have hP : va_P (dC, dI) vwCl (w1 a cI cJ (nI T) (nI L) op fa fb fc inp (coO (op, fa, fb, fc, inp, L) (op l0) l0 mk0 rg out T) (coR (op, fa, fb, fc, inp, L) (op l0) l0 mk0 rg T) lo (coS mk0 so T) st ps mt al (nI d) (upd pl k (nI (m32 (fb l0)))) pe pm) H := hP
      have hD : va_D A (w1 a cI cJ (nI T) (nI L) op fa fb fc inp (coO (op, fa, fb, fc, inp, L) (op l0) l0 mk0 rg out T) (coR (op, fa, fb, fc, inp, L) (op l0) l0 mk0 rg T) lo (coS mk0 so T) st ps mt al (nI d) (upd pl k (nI (m32 (fb l0)))) pe pm) := hD
      refine lv_goto (tgt := 167) hx hb dX1_carryOut_131 (by decide) ?_
      exact W.vret hx hb hr (fun t9 h9 hW9 => ⟨⟨(lo, st, al, d, upd pl k (nI (m32 (fb l0))), pe, pm), rfl, Or.inr (Or.inl ⟨c9, rfl⟩), by rw [h9]; exact hP, va_K.moved hW9.alike hK, hD⟩, hS.F h9⟩) hS.2.2 dX1_carryOut_167
  · refine lv_aload_n hx hb dX1_carryOut_99 rfl (lv_at hl 2 rfl) ?_
    refine lv_iload_n hx hb dX1_carryOut_100 rfl (lv_at hl 5 rfl) ?_
    refine lv_iload_n hx hb dX1_carryOut_101 rfl (lv_at hl 4 rfl) ?_
    refine lv_iconst (v := 1) hx hb dX1_carryOut_102 (by decide) ?_
    refine n_callv (As := [.int mk0, .int (nI l0), .int 1]) (rest := []) SF (mX1_endThreads l dC dI a cI cJ _ T L op fa fb fc inp (coO (op, fa, fb, fc, inp, L) (op l0) l0 mk0 rg out T) (coR (op, fa, fb, fc, inp, L) (op l0) l0 mk0 rg T) lo (coS mk0 so T) st ps mt al (nI d) pl pe pm mk0 (nI l0) 1 hT) (cwV 3 hts (lw_V q127 q129 qs6 q16 q130) rfl rfl rfl (by decide +kernel) ⟨Nat.le_of_ble_eq_true rfl, Nat.le_of_ble_eq_true rfl⟩) hK hP hD hS hA 0 0 rfl rfl rfl rfl hl.1 rfl (Nat.le_of_ble_eq_true rfl) dX1_carryOut_103 ⟨Nat.le_of_ble_eq_true rfl, Nat.le_of_ble_eq_true rfl⟩ (fun _ H locs _ hP hD hS => ?_)
    have hP : va_P (dC, dI) vwCl (w1 a cI cJ (nI T) (nI L) op fa fb fc inp (coO (op, fa, fb, fc, inp, L) (op l0) l0 mk0 rg out T) (coR (op, fa, fb, fc, inp, L) (op l0) l0 mk0 rg T) (etF T mk0 (nI l0) lo) (coS mk0 so T) (etF T mk0 1 st) ps mt (al &&& (mk0 ^^^ (-1))) (nI d) pl pe pm) H := hP
    have hD : va_D A (w1 a cI cJ (nI T) (nI L) op fa fb fc inp (coO (op, fa, fb, fc, inp, L) (op l0) l0 mk0 rg out T) (coR (op, fa, fb, fc, inp, L) (op l0) l0 mk0 rg T) (etF T mk0 (nI l0) lo) (coS mk0 so T) (etF T mk0 1 st) ps mt (al &&& (mk0 ^^^ (-1))) (nI d) pl pe pm) := hD
    refine lv_goto (tgt := 167) hx hb dX1_carryOut_106 (by decide) ?_
    exact W.vret hx hb hr (fun t9 h9 hW9 => ⟨⟨(etF T mk0 (nI l0) lo, etF T mk0 1 st, al &&& (mk0 ^^^ (-1)), d, pl, pe, pm), rfl, Or.inl ⟨c11, rfl⟩, by rw [h9]; exact hP, va_K.moved hW9.alike hK, hD⟩, hS.F h9⟩) hS.2.2 dX1_carryOut_167
section StepWarp
variable {p : Program} {l : Launch} {e : Env} {R : Room} {s : State} {m : MethodId} {args : Array Value} {below : List Frame} {meth : Method} {c : Code} {Q : State → Prop} {A : Nat → Prop} {dC : Nat → ClassId} {dI : Nat → Nat → Nat} {a : Nat → Nat} {cI cJ : ClassId}
set_option maxHeartbeats 4000000 in
set_option maxRecDepth 100000 in
theorem lpX1_stepWarp (SF : CallFix p m c cX1_stepWarp 6 s args lw_all RX1) (hK : va_K (dC, dI) vwCl (tyL cI cJ) s) (T L : Nat) (hT : T ≤ 8) (op fa fb fc inp out rg lo so st : Nat → Int32) (ps : Nat → Int64) (mt : Nat → Int32) (al dp : Int32) (pl pe pm : Nat → Int32) (tp mk0 ln0 : Int32) 
    (kk : ∀ (H : Heap) (locs : List Loc) (ls : Array Slot), va_P (dC, dI) vwCl (w1 a cI cJ (nI T) (nI L) op fa fb fc inp out rg lo so st ps mt al dp pl pe pm) H → va_D A (w1 a cI cJ (nI T) (nI L) op fa fb fc inp out rg lo so st ps mt al dp pl pe pm) → va_S A s.heap H locs → lv_has ls 6 [(5, .int (nI T)), (4, .int (twZ mk0 so T)), (0, .ref (a 0)), (1, .int tp), (2, .int mk0), (3, .int ln0)] → W p l e R s m args below meth c H locs 0 0 Q (F0 m 122 ls [])) :
    ∀ (n i : Nat), i + n = T → ∀ (H : Heap) (locs : List Loc) (ls : Array Slot), va_P (dC, dI) vwCl (w1 a cI cJ (nI T) (nI L) op fa fb fc inp out rg lo so st ps mt al dp pl pe pm) H → va_D A (w1 a cI cJ (nI T) (nI L) op fa fb fc inp out rg lo so st ps mt al dp pl pe pm) → va_S A s.heap H locs → lv_has ls 6 [(5, .int (nI i)), (4, .int (twZ mk0 so i)), (0, .ref (a 0)), (1, .int tp), (2, .int mk0), (3, .int ln0)] → W p l e R s m args below meth c H locs 0 0 Q (F0 m 73 ls []) := by
  obtain ⟨hx, hb, hml, hown, hts⟩ := id SF
  intro n
  induction n with
  | zero =>
    intro i hi H locs ls hP hD hS hl
    refine lv_iload hx hb dX1_stepWarp_73 (lv_at hl 0 rfl) ?_
    refine lv_aload_n hx hb dX1_stepWarp_75 rfl (lv_at hl 2 rfl) ?_
    refine va_get (D := (dC, dI)) (ci := 0) (v := .int (nI T)) (C := RX1) (T := TX1) (N := 19) hx hb hts in_X1 hown hK hP 0 rfl rfl 0 (by decide) (hts _ q26) (fun _ h9 => h9) rfl dX1_stepWarp_76 ?_
    refine lv_icmp_ge (tgt := 122) hx hb dX1_stepWarp_79 (by decide) (fun cz => ?_) (fun cz => ?_)
    · obtain rfl : i = T := by omega
      exact kk H locs ls hP hD hS hl
    · exact absurd (nI_le (a := T) (b := i) (by omega) (by omega)) cz
  | succ n ih =>
    intro i hi H locs ls hP hD hS hl
    refine lv_iload hx hb dX1_stepWarp_73 (lv_at hl 0 rfl) ?_
    refine lv_aload_n hx hb dX1_stepWarp_75 rfl (lv_at hl 2 rfl) ?_
    refine va_get (D := (dC, dI)) (ci := 0) (v := .int (nI T)) (C := RX1) (T := TX1) (N := 19) hx hb hts in_X1 hown hK hP 0 rfl rfl 0 (by decide) (hts _ q26) (fun _ h9 => h9) rfl dX1_stepWarp_76 ?_
    refine lv_icmp_ge (tgt := 122) hx hb dX1_stepWarp_79 (by decide) (fun cs => ?_) (fun cs => ?_)
    · exact absurd cs (nI_ge (a := i) (b := T) (by omega) (by omega))
    · refine lv_iload hx hb dX1_stepWarp_82 (lv_at hl 1 rfl) ?_
      refine lv_iload_n hx hb dX1_stepWarp_84 rfl (lv_at hl 4 rfl) ?_
      refine lv_iload hx hb dX1_stepWarp_85 (lv_at hl 0 rfl) ?_
      refine lv_iushr hx hb dX1_stepWarp_87 rfl ?_
      refine lv_iconst (v := 1) hx hb dX1_stepWarp_88 (by decide) ?_
      refine lv_iand hx hb dX1_stepWarp_89 ?_
      refine lv_if_eq (tgt := 112) hx hb dX1_stepWarp_90 (by decide) (fun cb => ?_) (fun cb => ?_)
      · have hbit : bt mk0 i = false := (z_test mk0 i (by omega)).mp cb
        refine lv_iconst (v := 0) hx hb dX1_stepWarp_112 (by decide) ?_
        refine lv_ior hx hb dX1_stepWarp_113 ?_
        refine n_topi (y := twZ mk0 so (i + 1)) (twZ_n (fun q => by rw [hbit] at q; exact absurd q.1 (by decide))) ?_
        refine lv_istore (lv' := [(4, .int (twZ mk0 so (i + 1))), (5, .int (nI i)), (0, .ref (a 0)), (1, .int tp), (2, .int mk0), (3, .int ln0)]) hx hb dX1_stepWarp_114 hl (by decide) rfl (fun ls hl => ?_)
        refine lv_iinc (v := nI (i + 1)) (lv' := [(5, .int (nI (i + 1))), (4, .int (twZ mk0 so (i + 1))), (0, .ref (a 0)), (1, .int tp), (2, .int mk0), (3, .int ln0)]) hx hb dX1_stepWarp_116 hl (k := 1) rfl (nI_1 _) (by decide) rfl (fun ls hl => ?_)
        refine lv_goto (tgt := 73) hx hb dX1_stepWarp_119 (by decide) ?_
        exact ih (i + 1) (by omega) H locs ls hP hD hS hl
      · have hbit : bt mk0 i = true := z_tt (fun q => cb ((z_test mk0 i (by omega)).mpr q))
        refine lv_aload_n hx hb dX1_stepWarp_93 rfl (lv_at hl 2 rfl) ?_
        refine va_get (D := (dC, dI)) (ci := 0) (v := .ref (a 9)) (C := RX1) (T := TX1) (N := 19) hx hb hts in_X1 hown hK hP 0 rfl rfl 10 (by decide) (hts _ q36) (fun _ h9 => h9) rfl dX1_stepWarp_94 ?_
        refine lv_iload hx hb dX1_stepWarp_97 (lv_at hl 0 rfl) ?_
        refine n_iald hx hb hK hP 9 0 rfl rfl i rfl (by omega) (by decide) dX1_stepWarp_99 ?_
        refine lv_bipush (v := 48) hx hb dX1_stepWarp_100 (by decide) ?_
        refine lv_icmp_lt (tgt := 112) hx hb dX1_stepWarp_102 (by decide) (fun cq => ?_) (fun cq => ?_)
        · refine lv_iconst (v := 0) hx hb dX1_stepWarp_112 (by decide) ?_
          refine lv_ior hx hb dX1_stepWarp_113 ?_
          refine n_topi (y := twZ mk0 so (i + 1)) (twZ_n (fun q => q.2 cq)) ?_
          refine lv_istore (lv' := [(4, .int (twZ mk0 so (i + 1))), (5, .int (nI i)), (0, .ref (a 0)), (1, .int tp), (2, .int mk0), (3, .int ln0)]) hx hb dX1_stepWarp_114 hl (by decide) rfl (fun ls hl => ?_)
          refine lv_iinc (v := nI (i + 1)) (lv' := [(5, .int (nI (i + 1))), (4, .int (twZ mk0 so (i + 1))), (0, .ref (a 0)), (1, .int tp), (2, .int mk0), (3, .int ln0)]) hx hb dX1_stepWarp_116 hl (k := 1) rfl (nI_1 _) (by decide) rfl (fun ls hl => ?_)
          refine lv_goto (tgt := 73) hx hb dX1_stepWarp_119 (by decide) ?_
          exact ih (i + 1) (by omega) H locs ls hP hD hS hl
        · refine lv_iconst (v := 1) hx hb dX1_stepWarp_105 (by decide) ?_
          refine lv_iload hx hb dX1_stepWarp_106 (lv_at hl 0 rfl) ?_
          refine lv_ishl hx hb dX1_stepWarp_108 ?_
          refine lv_goto (tgt := 113) hx hb dX1_stepWarp_109 (by decide) ?_
          refine lv_ior hx hb dX1_stepWarp_113 ?_
          refine n_topi (y := twZ mk0 so (i + 1)) (twZ_y hbit cq) ?_
          refine lv_istore (lv' := [(4, .int (twZ mk0 so (i + 1))), (5, .int (nI i)), (0, .ref (a 0)), (1, .int tp), (2, .int mk0), (3, .int ln0)]) hx hb dX1_stepWarp_114 hl (by decide) rfl (fun ls hl => ?_)
          refine lv_iinc (v := nI (i + 1)) (lv' := [(5, .int (nI (i + 1))), (4, .int (twZ mk0 so (i + 1))), (0, .ref (a 0)), (1, .int tp), (2, .int mk0), (3, .int ln0)]) hx hb dX1_stepWarp_116 hl (k := 1) rfl (nI_1 _) (by decide) rfl (fun ls hl => ?_)
          refine lv_goto (tgt := 73) hx hb dX1_stepWarp_119 (by decide) ?_
          exact ih (i + 1) (by omega) H locs ls hP hD hS hl
end StepWarp
set_option maxHeartbeats 4000000 in
set_option maxRecDepth 100000 in
theorem mX1_stepWarp (l : Launch) (dC : Nat → ClassId) (dI : Nat → Nat → Nat) (a : Nat → Nat) (cI cJ : ClassId) (sz : Nat) (T L : Nat) (op fa fb fc inp out rg lo so st : Nat → Int32) (ps : Nat → Int64) (mt : Nat → Int32) (al : Int32) (pl pe pm : Nat → Int32) (k : Nat) (hT : T ≤ 8) (hL : L ≤ 32) (hk : k < 30) (hln : ¬ (pm k &&& al) = 0 → ∃ l0 : Nat, l0 < 2 ^ 31 ∧ pl k = nI l0) : Met l yX1_stepWarp (ws_ yX1_stepWarp cX1_stepWarp 6 none) ({ frames := 3, cells := 0, slots := 0, locals := 75 } : Room) (va_Pc [.ref (a 0)] (prW dC dI (tyL cI cJ) sz (w1 a cI cJ (nI T) (nI L) op fa fb fc inp out rg lo so st ps mt al (nI (k + 1)) pl pe pm))) (va_Qv (fun u => swR (op, fa, fb, fc, inp, L) mt T k out rg lo so st al pl pe pm u) (fun u => poW dC dI (tyL cI cJ) (va_A (w1 a cI cJ (nI T) (nI L) op fa fb fc inp out rg lo so st ps mt al (nI (k + 1)) pl pe pm) sz) (w1 a cI cJ (nI T) (nI L) op fa fb fc inp u.1 u.2.1 u.2.2.1 u.2.2.2.1 u.2.2.2.2.1 ps mt u.2.2.2.2.2.1 (nI u.2.2.2.2.2.2.1) u.2.2.2.2.2.2.2.1 u.2.2.2.2.2.2.2.2.1 u.2.2.2.2.2.2.2.2.2)) (va_A (w1 a cI cJ (nI T) (nI L) op fa fb fc inp out rg lo so st ps mt al (nI (k + 1)) pl pe pm) sz)) 0 0 (va_A (w1 a cI cJ (nI T) (nI L) op fa fb fc inp out rg lo so st ps mt al (nI (k + 1)) pl pe pm) sz) := by
  refine n_met (by decide) (Nat.le_of_ble_eq_true rfl) ?_
  intro p e s m below meth c ls SF hr hlocks hnm hsz hK hP hD hA hl
  subst hsz
  have hS : va_S (va_A (w1 a cI cJ (nI T) (nI L) op fa fb fc inp out rg lo so st ps mt al (nI (k + 1)) pl pe pm) s.heap.size) s.heap s.heap [] := va_S.rf
  generalize va_A (w1 a cI cJ (nI T) (nI L) op fa fb fc inp out rg lo so st ps mt al (nI (k + 1)) pl pe pm) s.heap.size = A at hD hA hS ⊢
  obtain ⟨hx, hb, hml, hown, hts⟩ := id SF
  have hown : s.vm.findClass RX1 = some m.cls := hown
  have SF : CallFix p m c cX1_stepWarp 6 s _ lw_all RX1 := SF
  have hl : lv_has ls 6 [(0, .ref (a 0))] := hl
  refine lv_aload_n hx hb dX1_stepWarp_0 rfl (lv_at hl 0 rfl) ?_
  refine va_get (D := (dC, dI)) (ci := 0) (v := .int (nI (k + 1))) (C := RX1) (T := TX1) (N := 19) hx hb hts in_X1 hown hK hP 0 rfl rfl 15 (by decide) (hts _ q41) (fun _ h9 => h9) rfl dX1_stepWarp_1 ?_
  refine lv_iconst (v := 1) hx hb dX1_stepWarp_4 (by decide) ?_
  refine lv_isub hx hb dX1_stepWarp_5 ?_
  refine n_topi (y := nI k) (nI_pred k) ?_
  refine lv_istore_n (lv' := [(1, .int (nI k)), (0, .ref (a 0))]) hx hb dX1_stepWarp_6 rfl hl (by decide) rfl (fun ls hl => ?_)
  refine lv_aload_n hx hb dX1_stepWarp_7 rfl (lv_at hl 1 rfl) ?_
  refine va_get (D := (dC, dI)) (ci := 0) (v := .ref (a 15)) (C := RX1) (T := TX1) (N := 19) hx hb hts in_X1 hown hK hP 0 rfl rfl 18 (by decide) (hts _ q44) (fun _ h9 => h9) rfl dX1_stepWarp_8 ?_
  refine lv_iload_n hx hb dX1_stepWarp_11 rfl (lv_at hl 0 rfl) ?_
  refine n_iald hx hb hK hP 15 0 rfl rfl k rfl (by omega) (by decide) dX1_stepWarp_12 ?_
  refine lv_aload_n hx hb dX1_stepWarp_13 rfl (lv_at hl 1 rfl) ?_
  refine va_get (D := (dC, dI)) (ci := 0) (v := .int al) (C := RX1) (T := TX1) (N := 19) hx hb hts in_X1 hown hK hP 0 rfl rfl 14 (by decide) (hts _ q40) (fun _ h9 => h9) rfl dX1_stepWarp_14 ?_
  refine lv_iand hx hb dX1_stepWarp_17 ?_
  refine lv_istore_n (lv' := [(2, .int ((pm k) &&& al)), (1, .int (nI k)), (0, .ref (a 0))]) hx hb dX1_stepWarp_18 rfl hl (by decide) rfl (fun ls hl => ?_)
  refine lv_aload_n hx hb dX1_stepWarp_19 rfl (lv_at hl 2 rfl) ?_
  refine va_get (D := (dC, dI)) (ci := 0) (v := .ref (a 13)) (C := RX1) (T := TX1) (N := 19) hx hb hts in_X1 hown hK hP 0 rfl rfl 16 (by decide) (hts _ q42) (fun _ h9 => h9) rfl dX1_stepWarp_20 ?_
  refine lv_iload_n hx hb dX1_stepWarp_23 rfl (lv_at hl 1 rfl) ?_
  refine n_iald hx hb hK hP 13 0 rfl rfl k rfl (by omega) (by decide) dX1_stepWarp_24 ?_
  refine lv_istore_n (lv' := [(3, .int (pl k)), (2, .int ((pm k) &&& al)), (1, .int (nI k)), (0, .ref (a 0))]) hx hb dX1_stepWarp_25 rfl hl (by decide) rfl (fun ls hl => ?_)
  refine lv_iload_n hx hb dX1_stepWarp_26 rfl (lv_at hl 1 rfl) ?_
  refine lv_if_eq (tgt := 40) hx hb dX1_stepWarp_27 (by decide) (fun c1 => ?_) (fun c1 => ?_)
  · refine lv_aload_n hx hb dX1_stepWarp_40 rfl (lv_at hl 3 rfl) ?_
    refine lv_dup hx hb dX1_stepWarp_41 rfl ?_
    refine va_get (D := (dC, dI)) (ci := 0) (v := .int (nI (k + 1))) (C := RX1) (T := TX1) (N := 19) hx hb hts in_X1 hown hK hP 0 rfl rfl 15 (by decide) (hts _ q41) (fun _ h9 => h9) rfl dX1_stepWarp_42 ?_
    refine lv_iconst (v := 1) hx hb dX1_stepWarp_45 (by decide) ?_
    refine lv_isub hx hb dX1_stepWarp_46 ?_
    refine n_topi (y := nI k) (nI_pred k) ?_
    refine va_put (D := (dC, dI)) (ci := 0) (v := .int (nI k)) (ty := .int) (C := RX1) (T := TX1) (N := 19) hx hb hts in_X1 tyX1 tyX1_ok nmX1 hown hK hP hD hS 0 rfl rfl 15 (by decide) (hts _ q41) (fun _ h9 => h9) rfl (by decide +kernel) rfl rfl (Nat.le_of_ble_eq_true rfl) dX1_stepWarp_47 (fun H locs hP hD hS => ?_)
    have hP : va_P (dC, dI) vwCl (w1 a cI cJ (nI T) (nI L) op fa fb fc inp out rg lo so st ps mt al (nI k) pl pe pm) H := hP
    have hD : va_D A (w1 a cI cJ (nI T) (nI L) op fa fb fc inp out rg lo so st ps mt al (nI k) pl pe pm) := hD
    exact W.vret hx hb hr (fun t9 h9 hW9 => ⟨⟨(out, rg, lo, so, st, al, k, pl, pe, pm), rfl, Or.inl ⟨Or.inl c1, rfl⟩, by rw [h9]; exact hP, va_K.moved hW9.alike hK, hD⟩, hS.F h9⟩) hS.2.2 dX1_stepWarp_50
  · refine lv_iload_n hx hb dX1_stepWarp_30 rfl (lv_at hl 0 rfl) ?_
    refine lv_aload_n hx hb dX1_stepWarp_31 rfl (lv_at hl 3 rfl) ?_
    refine va_get (D := (dC, dI)) (ci := 0) (v := .ref (a 14)) (C := RX1) (T := TX1) (N := 19) hx hb hts in_X1 hown hK hP 0 rfl rfl 17 (by decide) (hts _ q43) (fun _ h9 => h9) rfl dX1_stepWarp_32 ?_
    refine lv_iload_n hx hb dX1_stepWarp_35 rfl (lv_at hl 2 rfl) ?_
    refine n_iald hx hb hK hP 14 0 rfl rfl k rfl (by omega) (by decide) dX1_stepWarp_36 ?_
    refine lv_icmp_ne (tgt := 51) hx hb dX1_stepWarp_37 (by decide) (fun c2 => ?_) (fun c2 => ?_)
    · obtain ⟨l0, hl0, el0⟩ := hln c1
      refine lv_iload_n hx hb dX1_stepWarp_51 rfl (lv_at hl 0 rfl) ?_
      refine lv_aload_n hx hb dX1_stepWarp_52 rfl (lv_at hl 3 rfl) ?_
      refine va_get (D := (dC, dI)) (ci := 0) (v := .int (nI L)) (C := RX1) (T := TX1) (N := 19) hx hb hts in_X1 hown hK hP 0 rfl rfl 1 (by decide) (hts _ q27) (fun _ h9 => h9) rfl dX1_stepWarp_53 ?_
      refine lv_icmp_lt (tgt := 67) hx hb dX1_stepWarp_56 (by decide) (fun c3 => ?_) (fun c3 => ?_)
      · have hlt : l0 < L := (nI_ltI hl0 (by omega)).mp (by rw [← el0]; exact c3)
        refine lv_iconst (v := 0) hx hb dX1_stepWarp_67 (by decide) ?_
        refine lv_istore (lv' := [(4, .int 0), (3, .int (pl k)), (2, .int ((pm k) &&& al)), (1, .int (nI k)), (0, .ref (a 0))]) hx hb dX1_stepWarp_68 hl (by decide) rfl (fun ls hl => ?_)
        refine lv_iconst (v := 0) hx hb dX1_stepWarp_70 (by decide) ?_
        refine lv_istore (lv' := [(5, .int 0), (4, .int 0), (3, .int (pl k)), (2, .int ((pm k) &&& al)), (1, .int (nI k)), (0, .ref (a 0))]) hx hb dX1_stepWarp_71 hl (by decide) rfl (fun ls hl => ?_)
        refine lpX1_stepWarp SF hK T L hT op fa fb fc inp out rg lo so st ps mt al (nI (k + 1)) pl pe pm (nI k) ((pm k) &&& al) (pl k) ?_ T 0 (by omega) _ _ _ hP hD hS (lv_sub hl [0, 1, 5, 4, 3, 2] rfl)
        intro H locs ls hP hD hS hl
        refine lv_iload hx hb dX1_stepWarp_122 (lv_at hl 1 rfl) ?_
        refine lv_if_eq (tgt := 136) hx hb dX1_stepWarp_124 (by decide) (fun c4 => ?_) (fun c4 => ?_)
        · refine lv_aload_n hx hb dX1_stepWarp_136 rfl (lv_at hl 2 rfl) ?_
          refine va_get (D := (dC, dI)) (ci := 0) (v := .ref (a 15)) (C := RX1) (T := TX1) (N := 19) hx hb hts in_X1 hown hK hP 0 rfl rfl 18 (by decide) (hts _ q44) (fun _ h9 => h9) rfl dX1_stepWarp_137 ?_
          refine lv_iload_n hx hb dX1_stepWarp_140 rfl (lv_at hl 3 rfl) ?_
          refine lv_iload_n hx hb dX1_stepWarp_141 rfl (lv_at hl 4 rfl) ?_
          refine n_iast hx hb hK hP hD hS 15 0 rfl rfl k rfl (by omega) (by decide) dX1_stepWarp_142 (fun H locs hP hD hS => ?_)
          have hP : va_P (dC, dI) vwCl (w1 a cI cJ (nI T) (nI L) op fa fb fc inp out rg lo so st ps mt al (nI (k + 1)) pl pe (upd pm k ((pm k) &&& al))) H := hP
          have hD : va_D A (w1 a cI cJ (nI T) (nI L) op fa fb fc inp out rg lo so st ps mt al (nI (k + 1)) pl pe (upd pm k ((pm k) &&& al))) := hD
          refine lv_aload_n hx hb dX1_stepWarp_143 rfl (lv_at hl 2 rfl) ?_
          refine lv_iload_n hx hb dX1_stepWarp_144 rfl (lv_at hl 3 rfl) ?_
          refine lv_iload_n hx hb dX1_stepWarp_145 rfl (lv_at hl 5 rfl) ?_
          refine lv_iload_n hx hb dX1_stepWarp_146 rfl (lv_at hl 4 rfl) ?_
          rw [el0] at hl ⊢
          refine n_callv (As := [.int (nI k), .int (nI l0), .int ((pm k) &&& al)]) (rest := []) SF (mX1_carryOut l dC dI a cI cJ _ T L op fa fb fc inp out rg lo so st ps mt al pl pe (upd pm k ((pm k) &&& al)) k l0 (k + 1) ((pm k) &&& al) hT (by omega) (by omega) (by omega)) (cwV 3 hts (lw_V q131 q133 qs7 q16 q134) rfl rfl rfl (by decide +kernel) ⟨Nat.le_of_ble_eq_true rfl, Nat.le_of_ble_eq_true rfl⟩) hK hP hD hS hA 0 0 rfl rfl rfl rfl hl.1 rfl (Nat.le_of_ble_eq_true rfl) dX1_stepWarp_147 ⟨Nat.le_of_ble_eq_true rfl, Nat.le_of_ble_eq_true rfl⟩ (fun u H locs hu hP hD hS => ?_)
          have hP : va_P (dC, dI) vwCl (w1 a cI cJ (nI T) (nI L) op fa fb fc inp (coO (op, fa, fb, fc, inp, L) (op l0) l0 ((pm k) &&& al) rg out T) (coR (op, fa, fb, fc, inp, L) (op l0) l0 ((pm k) &&& al) rg T) u.1 (coS ((pm k) &&& al) so T) u.2.1 ps mt u.2.2.1 (nI u.2.2.2.1) u.2.2.2.2.1 u.2.2.2.2.2.1 u.2.2.2.2.2.2) H := hP
          have hD : va_D A (w1 a cI cJ (nI T) (nI L) op fa fb fc inp (coO (op, fa, fb, fc, inp, L) (op l0) l0 ((pm k) &&& al) rg out T) (coR (op, fa, fb, fc, inp, L) (op l0) l0 ((pm k) &&& al) rg T) u.1 (coS ((pm k) &&& al) so T) u.2.1 ps mt u.2.2.1 (nI u.2.2.2.1) u.2.2.2.2.1 u.2.2.2.2.2.1 u.2.2.2.2.2.2) := hD
          exact W.vret hx hb hr (fun t9 h9 hW9 => ⟨⟨(coO (op, fa, fb, fc, inp, L) (op l0) l0 ((pm k) &&& al) rg out T, coR (op, fa, fb, fc, inp, L) (op l0) l0 ((pm k) &&& al) rg T, u.1, coS ((pm k) &&& al) so T, u.2.1, u.2.2.1, u.2.2.2.1, u.2.2.2.2.1, u.2.2.2.2.2.1, u.2.2.2.2.2.2), rfl, Or.inr ⟨c1, c2, l0, hl0, el0, Or.inr (Or.inr ⟨hlt, c4, u, hu, rfl⟩)⟩, by rw [h9]; exact hP, va_K.moved hW9.alike hK, hD⟩, hS.F h9⟩) hS.2.2 dX1_stepWarp_150
        · refine lv_aload_n hx hb dX1_stepWarp_127 rfl (lv_at hl 2 rfl) ?_
          refine lv_iload hx hb dX1_stepWarp_128 (lv_at hl 1 rfl) ?_
          refine lv_iload_n hx hb dX1_stepWarp_130 rfl (lv_at hl 5 rfl) ?_
          refine lv_iconst (v := 2) hx hb dX1_stepWarp_131 (by decide) ?_
          refine n_callv (As := [.int (twZ ((pm k) &&& al) so T), .int (pl k), .int 2]) (rest := []) SF (mX1_endThreads l dC dI a cI cJ _ T L op fa fb fc inp out rg lo so st ps mt al (nI (k + 1)) pl pe pm (twZ ((pm k) &&& al) so T) (pl k) 2 hT) (cwV 3 hts (lw_V q127 q129 qs6 q16 q130) rfl rfl rfl (by decide +kernel) ⟨Nat.le_of_ble_eq_true rfl, Nat.le_of_ble_eq_true rfl⟩) hK hP hD hS hA 0 0 rfl rfl rfl rfl hl.1 rfl (Nat.le_of_ble_eq_true rfl) dX1_stepWarp_132 ⟨Nat.le_of_ble_eq_true rfl, Nat.le_of_ble_eq_true rfl⟩ (fun _ H locs _ hP hD hS => ?_)
          have hP : va_P (dC, dI) vwCl (w1 a cI cJ (nI T) (nI L) op fa fb fc inp out rg (etF T (twZ ((pm k) &&& al) so T) (pl k) lo) so (etF T (twZ ((pm k) &&& al) so T) 2 st) ps mt (al &&& ((twZ ((pm k) &&& al) so T) ^^^ (-1))) (nI (k + 1)) pl pe pm) H := hP
          have hD : va_D A (w1 a cI cJ (nI T) (nI L) op fa fb fc inp out rg (etF T (twZ ((pm k) &&& al) so T) (pl k) lo) so (etF T (twZ ((pm k) &&& al) so T) 2 st) ps mt (al &&& ((twZ ((pm k) &&& al) so T) ^^^ (-1))) (nI (k + 1)) pl pe pm) := hD
          exact W.vret hx hb hr (fun t9 h9 hW9 => ⟨⟨(out, rg, etF T (twZ ((pm k) &&& al) so T) (pl k) lo, so, etF T (twZ ((pm k) &&& al) so T) 2 st, al &&& ((twZ ((pm k) &&& al) so T) ^^^ (-1)), k + 1, pl, pe, pm), rfl, Or.inr ⟨c1, c2, l0, hl0, el0, Or.inr (Or.inl ⟨hlt, c4, by rw [el0]⟩)⟩, by rw [h9]; exact hP, va_K.moved hW9.alike hK, hD⟩, hS.F h9⟩) hS.2.2 dX1_stepWarp_135
      · refine lv_aload_n hx hb dX1_stepWarp_59 rfl (lv_at hl 3 rfl) ?_
        refine lv_iload_n hx hb dX1_stepWarp_60 rfl (lv_at hl 1 rfl) ?_
        refine lv_iload_n hx hb dX1_stepWarp_61 rfl (lv_at hl 0 rfl) ?_
        refine lv_iconst (v := 1) hx hb dX1_stepWarp_62 (by decide) ?_
        refine n_callv (As := [.int ((pm k) &&& al), .int (pl k), .int 1]) (rest := []) SF (mX1_endThreads l dC dI a cI cJ _ T L op fa fb fc inp out rg lo so st ps mt al (nI (k + 1)) pl pe pm ((pm k) &&& al) (pl k) 1 hT) (cwV 3 hts (lw_V q127 q129 qs6 q16 q130) rfl rfl rfl (by decide +kernel) ⟨Nat.le_of_ble_eq_true rfl, Nat.le_of_ble_eq_true rfl⟩) hK hP hD hS hA 0 0 rfl rfl rfl rfl hl.1 rfl (Nat.le_of_ble_eq_true rfl) dX1_stepWarp_63 ⟨Nat.le_of_ble_eq_true rfl, Nat.le_of_ble_eq_true rfl⟩ (fun _ H locs _ hP hD hS => ?_)
        have hP : va_P (dC, dI) vwCl (w1 a cI cJ (nI T) (nI L) op fa fb fc inp out rg (etF T ((pm k) &&& al) (pl k) lo) so (etF T ((pm k) &&& al) 1 st) ps mt (al &&& (((pm k) &&& al) ^^^ (-1))) (nI (k + 1)) pl pe pm) H := hP
        have hD : va_D A (w1 a cI cJ (nI T) (nI L) op fa fb fc inp out rg (etF T ((pm k) &&& al) (pl k) lo) so (etF T ((pm k) &&& al) 1 st) ps mt (al &&& (((pm k) &&& al) ^^^ (-1))) (nI (k + 1)) pl pe pm) := hD
        exact W.vret hx hb hr (fun t9 h9 hW9 => ⟨⟨(out, rg, etF T ((pm k) &&& al) (pl k) lo, so, etF T ((pm k) &&& al) 1 st, al &&& (((pm k) &&& al) ^^^ (-1)), k + 1, pl, pe, pm), rfl, Or.inr ⟨c1, c2, l0, hl0, el0, Or.inl ⟨Nat.le_of_not_lt (fun q => c3 (by rw [el0]; exact nI_lt q (by omega))), by rw [el0]⟩⟩, by rw [h9]; exact hP, va_K.moved hW9.alike hK, hD⟩, hS.F h9⟩) hS.2.2 dX1_stepWarp_66
    · refine lv_aload_n hx hb dX1_stepWarp_40 rfl (lv_at hl 3 rfl) ?_
      refine lv_dup hx hb dX1_stepWarp_41 rfl ?_
      refine va_get (D := (dC, dI)) (ci := 0) (v := .int (nI (k + 1))) (C := RX1) (T := TX1) (N := 19) hx hb hts in_X1 hown hK hP 0 rfl rfl 15 (by decide) (hts _ q41) (fun _ h9 => h9) rfl dX1_stepWarp_42 ?_
      refine lv_iconst (v := 1) hx hb dX1_stepWarp_45 (by decide) ?_
      refine lv_isub hx hb dX1_stepWarp_46 ?_
      refine n_topi (y := nI k) (nI_pred k) ?_
      refine va_put (D := (dC, dI)) (ci := 0) (v := .int (nI k)) (ty := .int) (C := RX1) (T := TX1) (N := 19) hx hb hts in_X1 tyX1 tyX1_ok nmX1 hown hK hP hD hS 0 rfl rfl 15 (by decide) (hts _ q41) (fun _ h9 => h9) rfl (by decide +kernel) rfl rfl (Nat.le_of_ble_eq_true rfl) dX1_stepWarp_47 (fun H locs hP hD hS => ?_)
      have hP : va_P (dC, dI) vwCl (w1 a cI cJ (nI T) (nI L) op fa fb fc inp out rg lo so st ps mt al (nI k) pl pe pm) H := hP
      have hD : va_D A (w1 a cI cJ (nI T) (nI L) op fa fb fc inp out rg lo so st ps mt al (nI k) pl pe pm) := hD
      exact W.vret hx hb hr (fun t9 h9 hW9 => ⟨⟨(out, rg, lo, so, st, al, k, pl, pe, pm), rfl, Or.inl ⟨Or.inr c2, rfl⟩, by rw [h9]; exact hP, va_K.moved hW9.alike hK, hD⟩, hS.F h9⟩) hS.2.2 dX1_stepWarp_50
end
section
/-! contracts: behind, nearest, findMeetings of WarpMachine: they return; passed and meeting become anything -/
set_option maxHeartbeats 4000000 in
set_option maxRecDepth 100000 in
theorem mX1_behind (l : Launch) (dC : Nat → ClassId) (dI : Nat → Nat → Nat) (a : Nat → Nat) (cI cJ : ClassId) (sz : Nat) (T L : Nat) (op fa fb fc inp out rg lo so st : Nat → Int32) (ps : Nat → Int64) (mt : Nat → Int32) (al dp : Int32) (pl pe pm : Nat → Int32) (i : Nat) (hL : L ≤ 32) (hi : i < L) : Met l yX1_behind (ws_ yX1_behind cX1_behind 4 (some .long)) ({ frames := 1, cells := 0, slots := 0, locals := 21 } : Room) (va_Pc [.ref (a 0), .int (nI i)] (prW dC dI (tyL cI cJ) sz (w1 a cI cJ (nI T) (nI L) op fa fb fc inp out rg lo so st ps mt al dp pl pe pm))) (va_Ql (fun (_ : Int64) (_ : Unit) => True) (fun _ => poW dC dI (tyL cI cJ) (va_A (w1 a cI cJ (nI T) (nI L) op fa fb fc inp out rg lo so st ps mt al dp pl pe pm) sz) (w1 a cI cJ (nI T) (nI L) op fa fb fc inp out rg lo so st ps mt al dp pl pe pm)) (va_A (w1 a cI cJ (nI T) (nI L) op fa fb fc inp out rg lo so st ps mt al dp pl pe pm) sz)) 0 0 (va_A (w1 a cI cJ (nI T) (nI L) op fa fb fc inp out rg lo so st ps mt al dp pl pe pm) sz) := by
  refine n_met (by decide) (Nat.le_of_ble_eq_true rfl) ?_
  intro p e s m below meth c ls SF hr hlocks hnm hsz hK hP hD hA hl
  subst hsz
  have hS : va_S (va_A (w1 a cI cJ (nI T) (nI L) op fa fb fc inp out rg lo so st ps mt al dp pl pe pm) s.heap.size) s.heap s.heap [] := va_S.rf
  generalize va_A (w1 a cI cJ (nI T) (nI L) op fa fb fc inp out rg lo so st ps mt al dp pl pe pm) s.heap.size = A at hD hA hS ⊢
  obtain ⟨hx, hb, hml, hown, hts⟩ := id SF
  have hown : s.vm.findClass RX1 = some m.cls := hown
  have SF : CallFix p m c cX1_behind 4 s _ lw_all RX1 := SF
  have hl : lv_has ls 4 [(0, .ref (a 0)), (1, .int (nI i))] := hl
  refine lv_aload_n hx hb dX1_behind_0 rfl (lv_at hl 0 rfl) ?_
  refine va_get (D := (dC, dI)) (ci := 0) (v := .ref (a 1)) (C := RX1) (T := TX1) (N := 19) hx hb hts in_X1 hown hK hP 0 rfl rfl 2 (by decide) (hts _ q28) (fun _ h9 => h9) rfl dX1_behind_1 ?_
  refine lv_iload_n hx hb dX1_behind_4 rfl (lv_at hl 1 rfl) ?_
  refine n_iald hx hb hK hP 1 0 rfl rfl i rfl (by omega) (by decide) dX1_behind_5 ?_
  refine lv_bipush (v := 11) hx hb dX1_behind_6 (by decide) ?_
  refine lv_icmp_ne (tgt := 21) hx hb dX1_behind_8 (by decide) (fun c1 => ?_) (fun c1 => ?_)
  · refine lv_aload_n hx hb dX1_behind_21 rfl (lv_at hl 0 rfl) ?_
    refine lv_iload_n hx hb dX1_behind_22 rfl (lv_at hl 1 rfl) ?_
    refine lv_iconst (v := 1) hx hb dX1_behind_23 (by decide) ?_
    refine lv_iadd hx hb dX1_behind_24 ?_
    refine n_topi (y := nI (i + 1)) (nI_1 i) ?_
    refine n_calli (As := [.int (nI (i + 1))]) (rest := []) SF (mX1_capped l dC dI a cI cJ _ T L op fa fb fc inp out rg lo so st ps mt al dp pl pe pm (i + 1) hL (by omega)) (cwV 1 hts (lw_V q110 q112 qs2 q16 q113) rfl rfl rfl (by decide +kernel) ⟨Nat.le_of_ble_eq_true rfl, Nat.le_of_ble_eq_true rfl⟩) hK hP hD hS hA 0 0 rfl rfl rfl rfl hl.1 rfl (Nat.le_of_ble_eq_true rfl) dX1_behind_25 ⟨Nat.le_of_ble_eq_true rfl, Nat.le_of_ble_eq_true rfl⟩ (fun r1 _ H locs hr1 hP hD hS => ?_)
    obtain ⟨j1, hj1, rfl⟩ := hr1
    refine lv_istore_n (lv' := [(2, .int (nI j1)), (0, .ref (a 0)), (1, .int (nI i))]) hx hb dX1_behind_28 rfl hl (by decide) rfl (fun ls hl => ?_)
    refine lv_aload_n hx hb dX1_behind_29 rfl (lv_at hl 1 rfl) ?_
    refine lv_aload_n hx hb dX1_behind_30 rfl (lv_at hl 1 rfl) ?_
    refine va_get (D := (dC, dI)) (ci := 0) (v := .ref (a 3)) (C := RX1) (T := TX1) (N := 19) hx hb hts in_X1 hown hK hP 0 rfl rfl 4 (by decide) (hts _ q30) (fun _ h9 => h9) rfl dX1_behind_31 ?_
    refine lv_iload_n hx hb dX1_behind_34 rfl (lv_at hl 2 rfl) ?_
    refine n_iald hx hb hK hP 3 0 rfl rfl i rfl (by omega) (by decide) dX1_behind_35 ?_
    refine lv_bipush (v := 31) hx hb dX1_behind_36 (by decide) ?_
    refine lv_iand hx hb dX1_behind_38 ?_
    have hm := m32_lt (fb i)
    refine n_topi (y := nI (m32 (fb i))) (e32 _) ?_
    refine n_calli (As := [.int (nI (m32 (fb i)))]) (rest := []) SF (mX1_capped l dC dI a cI cJ _ T L op fa fb fc inp out rg lo so st ps mt al dp pl pe pm (m32 (fb i)) hL (by omega)) (cwV 1 hts (lw_V q110 q112 qs2 q16 q113) rfl rfl rfl (by decide +kernel) ⟨Nat.le_of_ble_eq_true rfl, Nat.le_of_ble_eq_true rfl⟩) hK hP hD hS hA 0 0 rfl rfl rfl rfl hl.1 rfl (Nat.le_of_ble_eq_true rfl) dX1_behind_39 ⟨Nat.le_of_ble_eq_true rfl, Nat.le_of_ble_eq_true rfl⟩ (fun r2 _ H locs hr2 hP hD hS => ?_)
    obtain ⟨j2, hj2, rfl⟩ := hr2
    refine lv_istore_n (lv' := [(3, .int (nI j2)), (2, .int (nI j1)), (0, .ref (a 0)), (1, .int (nI i))]) hx hb dX1_behind_42 rfl hl (by decide) rfl (fun ls hl => ?_)
    refine lv_aload_n hx hb dX1_behind_43 rfl (lv_at hl 2 rfl) ?_
    refine va_get (D := (dC, dI)) (ci := 0) (v := .ref (a 1)) (C := RX1) (T := TX1) (N := 19) hx hb hts in_X1 hown hK hP 0 rfl rfl 2 (by decide) (hts _ q28) (fun _ h9 => h9) rfl dX1_behind_44 ?_
    refine lv_iload_n hx hb dX1_behind_47 rfl (lv_at hl 3 rfl) ?_
    refine n_iald hx hb hK hP 1 0 rfl rfl i rfl (by omega) (by decide) dX1_behind_48 ?_
    refine lv_bipush (v := 9) hx hb dX1_behind_49 (by decide) ?_
    refine lv_icmp_ne (tgt := 61) hx hb dX1_behind_51 (by decide) (fun c2 => ?_) (fun c2 => ?_)
    · refine lv_aload_n hx hb dX1_behind_61 rfl (lv_at hl 2 rfl) ?_
      refine va_get (D := (dC, dI)) (ci := 0) (v := .ref (a 1)) (C := RX1) (T := TX1) (N := 19) hx hb hts in_X1 hown hK hP 0 rfl rfl 2 (by decide) (hts _ q28) (fun _ h9 => h9) rfl dX1_behind_62 ?_
      refine lv_iload_n hx hb dX1_behind_65 rfl (lv_at hl 3 rfl) ?_
      refine n_iald hx hb hK hP 1 0 rfl rfl i rfl (by omega) (by decide) dX1_behind_66 ?_
      refine lv_bipush (v := 10) hx hb dX1_behind_67 (by decide) ?_
      refine lv_icmp_ne (tgt := 88) hx hb dX1_behind_69 (by decide) (fun c3 => ?_) (fun c3 => ?_)
      · refine lv_aload_n hx hb dX1_behind_88 rfl (lv_at hl 2 rfl) ?_
        refine va_get (D := (dC, dI)) (ci := 0) (v := .ref (a 11)) (C := RX1) (T := TX1) (N := 19) hx hb hts in_X1 hown hK hP 0 rfl rfl 12 (by decide) (hts _ q38) (fun _ h9 => h9) rfl dX1_behind_89 ?_
        refine lv_iload_n hx hb dX1_behind_92 rfl (lv_at hl 1 rfl) ?_
        refine n_lald hx hb hK hP 11 1 rfl rfl j1 rfl (by omega) (by decide) dX1_behind_93 ?_
        exact W.lret (v := ps j1) hx hb hr (fun t9 h9 hW9 => ⟨⟨_, (), rfl, trivial, by rw [h9]; exact hP, va_K.moved hW9.alike hK, hD⟩, hS.F h9⟩) hS.2.2 dX1_behind_94
      · refine lv_aload_n hx hb dX1_behind_72 rfl (lv_at hl 2 rfl) ?_
        refine va_get (D := (dC, dI)) (ci := 0) (v := .ref (a 11)) (C := RX1) (T := TX1) (N := 19) hx hb hts in_X1 hown hK hP 0 rfl rfl 12 (by decide) (hts _ q38) (fun _ h9 => h9) rfl dX1_behind_73 ?_
        refine lv_iload_n hx hb dX1_behind_76 rfl (lv_at hl 1 rfl) ?_
        refine n_lald hx hb hK hP 11 1 rfl rfl j1 rfl (by omega) (by decide) dX1_behind_77 ?_
        refine lv_aload_n hx hb dX1_behind_78 rfl (lv_at hl 2 rfl) ?_
        refine va_get (D := (dC, dI)) (ci := 0) (v := .ref (a 11)) (C := RX1) (T := TX1) (N := 19) hx hb hts in_X1 hown hK hP 0 rfl rfl 12 (by decide) (hts _ q38) (fun _ h9 => h9) rfl dX1_behind_79 ?_
        refine lv_iload_n hx hb dX1_behind_82 rfl (lv_at hl 0 rfl) ?_
        refine n_lald hx hb hK hP 11 1 rfl rfl j2 rfl (by omega) (by decide) dX1_behind_83 ?_
        refine lv_land hx hb dX1_behind_84 ?_
        refine lv_goto (tgt := 94) hx hb dX1_behind_85 (by decide) ?_
        exact W.lret (v := (ps j1) &&& (ps j2)) hx hb hr (fun t9 h9 hW9 => ⟨⟨_, (), rfl, trivial, by rw [h9]; exact hP, va_K.moved hW9.alike hK, hD⟩, hS.F h9⟩) hS.2.2 dX1_behind_94
    · refine lv_aload_n hx hb dX1_behind_54 rfl (lv_at hl 2 rfl) ?_
      refine va_get (D := (dC, dI)) (ci := 0) (v := .ref (a 11)) (C := RX1) (T := TX1) (N := 19) hx hb hts in_X1 hown hK hP 0 rfl rfl 12 (by decide) (hts _ q38) (fun _ h9 => h9) rfl dX1_behind_55 ?_
      refine lv_iload_n hx hb dX1_behind_58 rfl (lv_at hl 0 rfl) ?_
      refine n_lald hx hb hK hP 11 1 rfl rfl j2 rfl (by omega) (by decide) dX1_behind_59 ?_
      exact W.lret (v := ps j2) hx hb hr (fun t9 h9 hW9 => ⟨⟨_, (), rfl, trivial, by rw [h9]; exact hP, va_K.moved hW9.alike hK, hD⟩, hS.F h9⟩) hS.2.2 dX1_behind_60
  · refine lv_aload_n hx hb dX1_behind_11 rfl (lv_at hl 0 rfl) ?_
    refine va_get (D := (dC, dI)) (ci := 0) (v := .ref (a 11)) (C := RX1) (T := TX1) (N := 19) hx hb hts in_X1 hown hK hP 0 rfl rfl 12 (by decide) (hts _ q38) (fun _ h9 => h9) rfl dX1_behind_12 ?_
    refine lv_aload_n hx hb dX1_behind_15 rfl (lv_at hl 0 rfl) ?_
    refine va_get (D := (dC, dI)) (ci := 0) (v := .int (nI L)) (C := RX1) (T := TX1) (N := 19) hx hb hts in_X1 hown hK hP 0 rfl rfl 1 (by decide) (hts _ q27) (fun _ h9 => h9) rfl dX1_behind_16 ?_
    refine n_lald hx hb hK hP 11 1 rfl rfl L rfl (by omega) (by decide) dX1_behind_19 ?_
    exact W.lret (v := ps L) hx hb hr (fun t9 h9 hW9 => ⟨⟨_, (), rfl, trivial, by rw [h9]; exact hP, va_K.moved hW9.alike hK, hD⟩, hS.F h9⟩) hS.2.2 dX1_behind_20
section Nearest
variable {p : Program} {l : Launch} {e : Env} {R : Room} {s : State} {m : MethodId} {args : Array Value} {below : List Frame} {meth : Method} {c : Code} {Q : State → Prop} {A : Nat → Prop} {dC : Nat → ClassId} {dI : Nat → Nat → Nat} {a : Nat → Nat} {cI cJ : ClassId}
set_option maxHeartbeats 4000000 in
set_option maxRecDepth 100000 in
theorem lpX1_nearest (SF : CallFix p m c cX1_nearest 5 s args lw_all RX1) (hK : va_K (dC, dI) vwCl (tyL cI cJ) s) (T L : Nat) (hL : L ≤ 32) (op fa fb fc inp out rg lo so st : Nat → Int32) (ps : Nat → Int64) (mt : Nat → Int32) (al dp : Int32) (pl pe pm : Nat → Int32) (i0 : Int32) (oth : Int64)
    (kk : ∀ (H : Heap) (locs : List Loc) (ls : Array Slot), va_P (dC, dI) vwCl (w1 a cI cJ (nI T) (nI L) op fa fb fc inp out rg lo so st ps mt al dp pl pe pm) H → va_D A (w1 a cI cJ (nI T) (nI L) op fa fb fc inp out rg lo so st ps mt al dp pl pe pm) → va_S A s.heap H locs → lv_has ls 5 [(4, .int (nI L)), (0, .ref (a 0)), (1, .int i0), (2, .long oth)] → W p l e R s m args below meth c H locs 0 0 Q (F0 m 59 ls []))
    (kr : ∀ (v : Int32) (H : Heap) (locs : List Loc) (ls : Array Slot), va_P (dC, dI) vwCl (w1 a cI cJ (nI T) (nI L) op fa fb fc inp out rg lo so st ps mt al dp pl pe pm) H → va_D A (w1 a cI cJ (nI T) (nI L) op fa fb fc inp out rg lo so st ps mt al dp pl pe pm) → va_S A s.heap H locs → W p l e R s m args below meth c H locs 0 0 Q (F0 m 52 ls [.int v])) :
    ∀ (n i : Nat), i + n = L → ∀ (H : Heap) (locs : List Loc) (ls : Array Slot), va_P (dC, dI) vwCl (w1 a cI cJ (nI T) (nI L) op fa fb fc inp out rg lo so st ps mt al dp pl pe pm) H → va_D A (w1 a cI cJ (nI T) (nI L) op fa fb fc inp out rg lo so st ps mt al dp pl pe pm) → va_S A s.heap H locs → lv_has ls 5 [(4, .int (nI i)), (0, .ref (a 0)), (1, .int i0), (2, .long oth)] → W p l e R s m args below meth c H locs 0 0 Q (F0 m 18 ls []) := by
  obtain ⟨hx, hb, hml, hown, hts⟩ := id SF
  intro n
  induction n with
  | zero =>
    intro i hi H locs ls hP hD hS hl
    refine lv_iload hx hb dX1_nearest_18 (lv_at hl 0 rfl) ?_
    refine lv_aload_n hx hb dX1_nearest_20 rfl (lv_at hl 1 rfl) ?_
    refine va_get (D := (dC, dI)) (ci := 0) (v := .int (nI L)) (C := RX1) (T := TX1) (N := 19) hx hb hts in_X1 hown hK hP 0 rfl rfl 1 (by decide) (hts _ q27) (fun _ h9 => h9) rfl dX1_nearest_21 ?_
    refine lv_icmp_ge (tgt := 59) hx hb dX1_nearest_24 (by decide) (fun cz => ?_) (fun cz => ?_)
    · obtain rfl : i = L := by omega
      exact kk H locs ls hP hD hS hl
    · exact absurd (nI_le (a := L) (b := i) (by omega) (by omega)) cz
  | succ n ih =>
    intro i hi H locs ls hP hD hS hl
    refine lv_iload hx hb dX1_nearest_18 (lv_at hl 0 rfl) ?_
    refine lv_aload_n hx hb dX1_nearest_20 rfl (lv_at hl 1 rfl) ?_
    refine va_get (D := (dC, dI)) (ci := 0) (v := .int (nI L)) (C := RX1) (T := TX1) (N := 19) hx hb hts in_X1 hown hK hP 0 rfl rfl 1 (by decide) (hts _ q27) (fun _ h9 => h9) rfl dX1_nearest_21 ?_
    refine lv_icmp_ge (tgt := 59) hx hb dX1_nearest_24 (by decide) (fun cs => ?_) (fun cs => ?_)
    · exact absurd cs (nI_ge (a := i) (b := L) (by omega) (by omega))
    · refine lv_lload_n hx hb dX1_nearest_27 rfl (lv_at hl 3 rfl) ?_
      refine lv_iload hx hb dX1_nearest_28 (lv_at hl 0 rfl) ?_
      refine lv_lushr hx hb dX1_nearest_30 rfl ?_
      refine lv_lconst (v := 1) hx hb dX1_nearest_31 (by decide) ?_
      refine lv_land hx hb dX1_nearest_32 ?_
      refine lv_lconst (v := 0) hx hb dX1_nearest_33 (by decide) ?_
      refine W.lcmp hx hb dX1_nearest_34 ?_
      refine lv_if_eq (tgt := 53) hx hb dX1_nearest_35 (by decide) (fun c1 => ?_) (fun c1 => ?_)
      · refine lv_iinc (v := nI (i + 1)) (lv' := [(4, .int (nI (i + 1))), (0, .ref (a 0)), (1, .int i0), (2, .long oth)]) hx hb dX1_nearest_53 hl (k := 0) rfl (nI_1 _) (by decide) rfl (fun ls hl => ?_)
        refine lv_goto (tgt := 18) hx hb dX1_nearest_56 (by decide) ?_
        exact ih (i + 1) (by omega) H locs ls hP hD hS hl
      · refine lv_aload_n hx hb dX1_nearest_38 rfl (lv_at hl 1 rfl) ?_
        refine va_get (D := (dC, dI)) (ci := 0) (v := .ref (a 11)) (C := RX1) (T := TX1) (N := 19) hx hb hts in_X1 hown hK hP 0 rfl rfl 12 (by decide) (hts _ q38) (fun _ h9 => h9) rfl dX1_nearest_39 ?_
        refine lv_iload hx hb dX1_nearest_42 (lv_at hl 0 rfl) ?_
        refine n_lald hx hb hK hP 11 1 rfl rfl i rfl (by omega) (by decide) dX1_nearest_44 ?_
        refine lv_lload_n hx hb dX1_nearest_45 rfl (lv_at hl 3 rfl) ?_
        refine W.lcmp hx hb dX1_nearest_46 ?_
        refine lv_if_ne (tgt := 53) hx hb dX1_nearest_47 (by decide) (fun c2 => ?_) (fun c2 => ?_)
        · refine lv_iinc (v := nI (i + 1)) (lv' := [(4, .int (nI (i + 1))), (0, .ref (a 0)), (1, .int i0), (2, .long oth)]) hx hb dX1_nearest_53 hl (k := 0) rfl (nI_1 _) (by decide) rfl (fun ls hl => ?_)
          refine lv_goto (tgt := 18) hx hb dX1_nearest_56 (by decide) ?_
          exact ih (i + 1) (by omega) H locs ls hP hD hS hl
        · refine lv_iload hx hb dX1_nearest_50 (lv_at hl 0 rfl) ?_
          exact kr _ H locs ls hP hD hS
end Nearest
set_option maxHeartbeats 4000000 in
set_option maxRecDepth 100000 in
theorem mX1_nearest (l : Launch) (dC : Nat → ClassId) (dI : Nat → Nat → Nat) (a : Nat → Nat) (cI cJ : ClassId) (sz : Nat) (T L : Nat) (op fa fb fc inp out rg lo so st : Nat → Int32) (ps : Nat → Int64) (mt : Nat → Int32) (al dp : Int32) (pl pe pm : Nat → Int32) (i0 : Nat) (hL : L ≤ 32) (hi : i0 < 33) : Met l yX1_nearest (ws_ yX1_nearest cX1_nearest 5 (some .int)) ({ frames := 0, cells := 0, slots := 0, locals := 0 } : Room) (va_Pc [.ref (a 0), .int (nI i0)] (prW dC dI (tyL cI cJ) sz (w1 a cI cJ (nI T) (nI L) op fa fb fc inp out rg lo so st ps mt al dp pl pe pm))) (va_Qi (fun (_ : Int32) (_ : Unit) => True) (fun _ => poW dC dI (tyL cI cJ) (va_A (w1 a cI cJ (nI T) (nI L) op fa fb fc inp out rg lo so st ps mt al dp pl pe pm) sz) (w1 a cI cJ (nI T) (nI L) op fa fb fc inp out rg lo so st ps mt al dp pl pe pm)) (va_A (w1 a cI cJ (nI T) (nI L) op fa fb fc inp out rg lo so st ps mt al dp pl pe pm) sz)) 0 0 (va_A (w1 a cI cJ (nI T) (nI L) op fa fb fc inp out rg lo so st ps mt al dp pl pe pm) sz) := by
  refine n_met (by decide) (Nat.le_of_ble_eq_true rfl) ?_
  intro p e s m below meth c ls SF hr hlocks hnm hsz hK hP hD hA hl
  subst hsz
  have hS : va_S (va_A (w1 a cI cJ (nI T) (nI L) op fa fb fc inp out rg lo so st ps mt al dp pl pe pm) s.heap.size) s.heap s.heap [] := va_S.rf
  generalize va_A (w1 a cI cJ (nI T) (nI L) op fa fb fc inp out rg lo so st ps mt al dp pl pe pm) s.heap.size = A at hD hA hS ⊢
  obtain ⟨hx, hb, hml, hown, hts⟩ := id SF
  have hown : s.vm.findClass RX1 = some m.cls := hown
  have SF : CallFix p m c cX1_nearest 5 s _ lw_all RX1 := SF
  have hl : lv_has ls 5 [(0, .ref (a 0)), (1, .int (nI i0))] := hl
  refine lv_aload_n hx hb dX1_nearest_0 rfl (lv_at hl 0 rfl) ?_
  refine va_get (D := (dC, dI)) (ci := 0) (v := .ref (a 11)) (C := RX1) (T := TX1) (N := 19) hx hb hts in_X1 hown hK hP 0 rfl rfl 12 (by decide) (hts _ q38) (fun _ h9 => h9) rfl dX1_nearest_1 ?_
  refine lv_iload_n hx hb dX1_nearest_4 rfl (lv_at hl 1 rfl) ?_
  refine n_lald hx hb hK hP 11 1 rfl rfl i0 rfl (by omega) (by decide) dX1_nearest_5 ?_
  refine lv_lconst (v := 1) hx hb dX1_nearest_6 (by decide) ?_
  refine lv_iload_n hx hb dX1_nearest_7 rfl (lv_at hl 1 rfl) ?_
  refine lv_lshl hx hb dX1_nearest_8 rfl ?_
  refine lv_ldc2 (v := -1) hx hb hown (hts _ q118) dX1_nearest_9 ?_
  refine lv_lxor hx hb dX1_nearest_12 ?_
  refine lv_land hx hb dX1_nearest_13 ?_
  refine lv_topl (fun oth eoth => ?_)
  refine lv_lstore_n (lv' := [(2, .long oth), (0, .ref (a 0)), (1, .int (nI i0))]) hx hb dX1_nearest_14 rfl hl (by decide) rfl (fun ls hl => ?_)
  refine lv_iconst (v := 0) hx hb dX1_nearest_15 (by decide) ?_
  refine lv_istore (lv' := [(4, .int 0), (2, .long oth), (0, .ref (a 0)), (1, .int (nI i0))]) hx hb dX1_nearest_16 hl (by decide) rfl (fun ls hl => ?_)
  refine lpX1_nearest SF hK T L hL op fa fb fc inp out rg lo so st ps mt al dp pl pe pm (nI i0) oth ?_ ?_ L 0 (by omega) _ _ _ hP hD hS (lv_sub hl [0, 2, 3, 1] rfl)
  · intro H locs ls hP hD hS hl
    refine lv_aload_n hx hb dX1_nearest_59 rfl (lv_at hl 1 rfl) ?_
    refine va_get (D := (dC, dI)) (ci := 0) (v := .int (nI L)) (C := RX1) (T := TX1) (N := 19) hx hb hts in_X1 hown hK hP 0 rfl rfl 1 (by decide) (hts _ q27) (fun _ h9 => h9) rfl dX1_nearest_60 ?_
    exact W.iret (v := nI L) hx hb hr (fun t9 h9 hW9 => ⟨⟨_, (), rfl, trivial, by rw [h9]; exact hP, va_K.moved hW9.alike hK, hD⟩, hS.F h9⟩) hS.2.2 dX1_nearest_63
  · intro v H locs ls hP hD hS
    exact W.iret (v := v) hx hb hr (fun t9 h9 hW9 => ⟨⟨_, (), rfl, trivial, by rw [h9]; exact hP, va_K.moved hW9.alike hK, hD⟩, hS.F h9⟩) hS.2.2 dX1_nearest_52
section FindMeetings
variable {p : Program} {l : Launch} {e : Env} {R : Room} {s : State} {m : MethodId} {args : Array Value} {below : List Frame} {meth : Method} {c : Code} {Q : State → Prop} {A : Nat → Prop} {dC : Nat → ClassId} {dI : Nat → Nat → Nat} {a : Nat → Nat} {cI cJ : ClassId}
set_option maxHeartbeats 4000000 in
set_option maxRecDepth 100000 in
theorem lpX1_find1 (SF : CallFix p m c cX1_findMeetings 8 s args lw_all RX1) (hK : va_K (dC, dI) vwCl (tyL cI cJ) s) (T L : Nat) (hL : L ≤ 32) (op fa fb fc inp out rg lo so st : Nat → Int32) (al dp : Int32) (pl pe pm : Nat → Int32) (mt : Nat → Int32) (al0 : Int64) 
    (kk : ∀ (ps : Nat → Int64) (H : Heap) (locs : List Loc) (ls : Array Slot), va_P (dC, dI) vwCl (w1 a cI cJ (nI T) (nI L) op fa fb fc inp out rg lo so st ps mt al dp pl pe pm) H → va_D A (w1 a cI cJ (nI T) (nI L) op fa fb fc inp out rg lo so st ps mt al dp pl pe pm) → va_S A s.heap H locs → lv_has ls 8 [(3, .int (nI L)), (0, .ref (a 0)), (1, .long al0)] → W p l e R s m args below meth c H locs 0 0 Q (F0 m 34 ls [])) :
    ∀ (n i : Nat), i + n = L → ∀ (ps : Nat → Int64) (H : Heap) (locs : List Loc) (ls : Array Slot), va_P (dC, dI) vwCl (w1 a cI cJ (nI T) (nI L) op fa fb fc inp out rg lo so st ps mt al dp pl pe pm) H → va_D A (w1 a cI cJ (nI T) (nI L) op fa fb fc inp out rg lo so st ps mt al dp pl pe pm) → va_S A s.heap H locs → lv_has ls 8 [(3, .int (nI i)), (0, .ref (a 0)), (1, .long al0)] → W p l e R s m args below meth c H locs 0 0 Q (F0 m 13 ls []) := by
  obtain ⟨hx, hb, hml, hown, hts⟩ := id SF
  intro n
  induction n with
  | zero =>
    intro i hi ps H locs ls hP hD hS hl
    refine lv_iload_n hx hb dX1_findMeetings_13 rfl (lv_at hl 0 rfl) ?_
    refine lv_aload_n hx hb dX1_findMeetings_14 rfl (lv_at hl 1 rfl) ?_
    refine va_get (D := (dC, dI)) (ci := 0) (v := .int (nI L)) (C := RX1) (T := TX1) (N := 19) hx hb hts in_X1 hown hK hP 0 rfl rfl 1 (by decide) (hts _ q27) (fun _ h9 => h9) rfl dX1_findMeetings_15 ?_
    refine lv_icmp_ge (tgt := 34) hx hb dX1_findMeetings_18 (by decide) (fun cz => ?_) (fun cz => ?_)
    · obtain rfl : i = L := by omega
      exact kk ps H locs ls hP hD hS hl
    · exact absurd (nI_le (a := L) (b := i) (by omega) (by omega)) cz
  | succ n ih =>
    intro i hi ps H locs ls hP hD hS hl
    refine lv_iload_n hx hb dX1_findMeetings_13 rfl (lv_at hl 0 rfl) ?_
    refine lv_aload_n hx hb dX1_findMeetings_14 rfl (lv_at hl 1 rfl) ?_
    refine va_get (D := (dC, dI)) (ci := 0) (v := .int (nI L)) (C := RX1) (T := TX1) (N := 19) hx hb hts in_X1 hown hK hP 0 rfl rfl 1 (by decide) (hts _ q27) (fun _ h9 => h9) rfl dX1_findMeetings_15 ?_
    refine lv_icmp_ge (tgt := 34) hx hb dX1_findMeetings_18 (by decide) (fun cs => ?_) (fun cs => ?_)
    · exact absurd cs (nI_ge (a := i) (b := L) (by omega) (by omega))
    · refine lv_aload_n hx hb dX1_findMeetings_21 rfl (lv_at hl 1 rfl) ?_
      refine va_get (D := (dC, dI)) (ci := 0) (v := .ref (a 11)) (C := RX1) (T := TX1) (N := 19) hx hb hts in_X1 hown hK hP 0 rfl rfl 12 (by decide) (hts _ q38) (fun _ h9 => h9) rfl dX1_findMeetings_22 ?_
      refine lv_iload_n hx hb dX1_findMeetings_25 rfl (lv_at hl 0 rfl) ?_
      refine lv_lload_n hx hb dX1_findMeetings_26 rfl (lv_at hl 2 rfl) ?_
      refine n_last hx hb hK hP hD hS 11 1 rfl rfl i rfl (by omega) (by decide) dX1_findMeetings_27 (fun H locs hP hD hS => ?_)
      have hP : va_P (dC, dI) vwCl (w1 a cI cJ (nI T) (nI L) op fa fb fc inp out rg lo so st (vp_updL ps i al0) mt al dp pl pe pm) H := hP
      have hD : va_D A (w1 a cI cJ (nI T) (nI L) op fa fb fc inp out rg lo so st (vp_updL ps i al0) mt al dp pl pe pm) := hD
      refine lv_iinc (v := nI (i + 1)) (lv' := [(3, .int (nI (i + 1))), (0, .ref (a 0)), (1, .long al0)]) hx hb dX1_findMeetings_28 hl (k := 0) rfl (nI_1 _) (by decide) rfl (fun ls hl => ?_)
      refine lv_goto (tgt := 13) hx hb dX1_findMeetings_31 (by decide) ?_
      exact ih (i + 1) (by omega) _ H locs ls hP hD hS hl
set_option maxHeartbeats 4000000 in
set_option maxRecDepth 100000 in
theorem lpX1_find2 (SF : CallFix p m c cX1_findMeetings 8 s args lw_all RX1) (hK : va_K (dC, dI) vwCl (tyL cI cJ) s) (hA : ∀ q : Nat, s.heap.size ≤ q → A q) (T L : Nat) (hL : L ≤ 32) (op fa fb fc inp out rg lo so st : Nat → Int32) (al dp : Int32) (pl pe pm : Nat → Int32) (mt : Nat → Int32) (al0 : Int64) (rd : Int32)
    (kk : ∀ (ch : Int32) (ps : Nat → Int64) (H : Heap) (locs : List Loc) (ls : Array Slot), va_P (dC, dI) vwCl (w1 a cI cJ (nI T) (nI L) op fa fb fc inp out rg lo so st ps mt al dp pl pe pm) H → va_D A (w1 a cI cJ (nI T) (nI L) op fa fb fc inp out rg lo so st ps mt al dp pl pe pm) → va_S A s.heap H locs → lv_has ls 8 [(3, .int ch), (4, .int rd), (0, .ref (a 0)), (1, .long al0)] → W p l e ({ frames := 2, cells := 0, slots := 0, locals := 44 } : Room) s m args below meth c H locs 0 0 Q (F0 m 131 ls [])) :
    ∀ (n : Nat), n ≤ L → ∀ (ch : Int32) (ps : Nat → Int64) (H : Heap) (locs : List Loc) (ls : Array Slot), va_P (dC, dI) vwCl (w1 a cI cJ (nI T) (nI L) op fa fb fc inp out rg lo so st ps mt al dp pl pe pm) H → va_D A (w1 a cI cJ (nI T) (nI L) op fa fb fc inp out rg lo so st ps mt al dp pl pe pm) → va_S A s.heap H locs → lv_has ls 8 [(5, .int ((nI n) - 1)), (3, .int ch), (4, .int rd), (0, .ref (a 0)), (1, .long al0)] → W p l e ({ frames := 2, cells := 0, slots := 0, locals := 44 } : Room) s m args below meth c H locs 0 0 Q (F0 m 75 ls []) := by
  obtain ⟨hx, hb, hml, hown, hts⟩ := id SF
  intro n
  induction n with
  | zero =>
    intro hn ch ps H locs ls hP hD hS hl
    refine lv_iload hx hb dX1_findMeetings_75 (lv_at hl 0 rfl) ?_
    refine lv_if_lt (tgt := 131) hx hb dX1_findMeetings_77 (by decide) (fun cz => ?_) (fun cz => ?_)
    · exact kk ch ps H locs ls hP hD hS (lv_sub hl [1, 2, 3, 4] rfl)
    · exact absurd (show (nI 0 : Int32) - 1 < 0 by decide) cz
  | succ n ih =>
    intro hn ch ps H locs ls hP hD hS hl
    rw [nI_pred] at hl
    refine lv_iload hx hb dX1_findMeetings_75 (lv_at hl 0 rfl) ?_
    refine lv_if_lt (tgt := 131) hx hb dX1_findMeetings_77 (by decide) (fun cs => ?_) (fun cs => ?_)
    · exact absurd cs (nI_pos (by omega))
    · refine lv_aload_n hx hb dX1_findMeetings_80 rfl (lv_at hl 3 rfl) ?_
      refine lv_iload hx hb dX1_findMeetings_81 (lv_at hl 0 rfl) ?_
      refine n_calll (As := [.int (nI n)]) (rest := []) SF (mX1_behind l dC dI a cI cJ _ T L op fa fb fc inp out rg lo so st ps mt al dp pl pe pm n hL (by omega)) (cwV 1 hts (lw_V q106 q108 qs1 q16 q109) rfl rfl rfl (by decide +kernel) ⟨Nat.le_of_ble_eq_true rfl, Nat.le_of_ble_eq_true rfl⟩) hK hP hD hS hA 0 0 rfl rfl rfl rfl hl.1 rfl (Nat.le_of_ble_eq_true rfl) dX1_findMeetings_83 ⟨Nat.le_of_ble_eq_true rfl, Nat.le_of_ble_eq_true rfl⟩ (fun r1 _ H locs _ hP hD hS => ?_)
      refine lv_lconst (v := 1) hx hb dX1_findMeetings_86 (by decide) ?_
      refine lv_iload hx hb dX1_findMeetings_87 (lv_at hl 0 rfl) ?_
      refine lv_lshl hx hb dX1_findMeetings_89 rfl ?_
      refine lv_lor hx hb dX1_findMeetings_90 ?_
      refine lv_topl (fun st0 est0 => ?_)
      refine lv_lstore (lv' := [(6, .long st0), (5, .int (nI n)), (3, .int ch), (4, .int rd), (0, .ref (a 0)), (1, .long al0)]) hx hb dX1_findMeetings_91 hl (by decide) rfl (fun ls hl => ?_)
      refine lv_iload_n hx hb dX1_findMeetings_93 rfl (lv_at hl 2 rfl) ?_
      refine lv_if_ne (tgt := 110) hx hb dX1_findMeetings_94 (by decide) (fun c1 => ?_) (fun c1 => ?_)
      · refine lv_iconst (v := 1) hx hb dX1_findMeetings_110 (by decide) ?_
        refine lv_goto (tgt := 115) hx hb dX1_findMeetings_111 (by decide) ?_
        refine lv_istore_n (lv' := [(3, .int 1), (6, .long st0), (5, .int (nI n)), (4, .int rd), (0, .ref (a 0)), (1, .long al0)]) hx hb dX1_findMeetings_115 rfl hl (by decide) rfl (fun ls hl => ?_)
        refine lv_aload_n hx hb dX1_findMeetings_116 rfl (lv_at hl 4 rfl) ?_
        refine va_get (D := (dC, dI)) (ci := 0) (v := .ref (a 11)) (C := RX1) (T := TX1) (N := 19) hx hb hts in_X1 hown hK hP 0 rfl rfl 12 (by decide) (hts _ q38) (fun _ h9 => h9) rfl dX1_findMeetings_117 ?_
        refine lv_iload hx hb dX1_findMeetings_120 (lv_at hl 2 rfl) ?_
        refine lv_lload hx hb dX1_findMeetings_122 (lv_at hl 1 rfl) ?_
        refine n_last hx hb hK hP hD hS 11 1 rfl rfl n rfl (by omega) (by decide) dX1_findMeetings_124 (fun H locs hP hD hS => ?_)
        have hP : va_P (dC, dI) vwCl (w1 a cI cJ (nI T) (nI L) op fa fb fc inp out rg lo so st (vp_updL ps n st0) mt al dp pl pe pm) H := hP
        have hD : va_D A (w1 a cI cJ (nI T) (nI L) op fa fb fc inp out rg lo so st (vp_updL ps n st0) mt al dp pl pe pm) := hD
        refine lv_iinc (v := (nI n) - 1) (lv' := [(5, .int ((nI n) - 1)), (3, .int 1), (6, .long st0), (4, .int rd), (0, .ref (a 0)), (1, .long al0)]) hx hb dX1_findMeetings_125 hl (k := 2) rfl (by rw [Int32.sub_eq_add_neg]; rfl) (by decide) rfl (fun ls hl => ?_)
        refine lv_goto (tgt := 75) hx hb dX1_findMeetings_128 (by decide) ?_
        exact ih (by omega) _ _ H locs ls hP hD hS (lv_sub hl [0, 1, 3, 4, 5] rfl)
      · refine lv_lload hx hb dX1_findMeetings_97 (lv_at hl 0 rfl) ?_
        refine lv_aload_n hx hb dX1_findMeetings_99 rfl (lv_at hl 4 rfl) ?_
        refine va_get (D := (dC, dI)) (ci := 0) (v := .ref (a 11)) (C := RX1) (T := TX1) (N := 19) hx hb hts in_X1 hown hK hP 0 rfl rfl 12 (by decide) (hts _ q38) (fun _ h9 => h9) rfl dX1_findMeetings_100 ?_
        refine lv_iload hx hb dX1_findMeetings_103 (lv_at hl 1 rfl) ?_
        refine n_lald hx hb hK hP 11 1 rfl rfl n rfl (by omega) (by decide) dX1_findMeetings_105 ?_
        refine W.lcmp hx hb dX1_findMeetings_106 ?_
        refine lv_if_eq (tgt := 114) hx hb dX1_findMeetings_107 (by decide) (fun c2 => ?_) (fun c2 => ?_)
        · refine lv_iconst (v := 0) hx hb dX1_findMeetings_114 (by decide) ?_
          refine lv_istore_n (lv' := [(3, .int 0), (6, .long st0), (5, .int (nI n)), (4, .int rd), (0, .ref (a 0)), (1, .long al0)]) hx hb dX1_findMeetings_115 rfl hl (by decide) rfl (fun ls hl => ?_)
          refine lv_aload_n hx hb dX1_findMeetings_116 rfl (lv_at hl 4 rfl) ?_
          refine va_get (D := (dC, dI)) (ci := 0) (v := .ref (a 11)) (C := RX1) (T := TX1) (N := 19) hx hb hts in_X1 hown hK hP 0 rfl rfl 12 (by decide) (hts _ q38) (fun _ h9 => h9) rfl dX1_findMeetings_117 ?_
          refine lv_iload hx hb dX1_findMeetings_120 (lv_at hl 2 rfl) ?_
          refine lv_lload hx hb dX1_findMeetings_122 (lv_at hl 1 rfl) ?_
          refine n_last hx hb hK hP hD hS 11 1 rfl rfl n rfl (by omega) (by decide) dX1_findMeetings_124 (fun H locs hP hD hS => ?_)
          have hP : va_P (dC, dI) vwCl (w1 a cI cJ (nI T) (nI L) op fa fb fc inp out rg lo so st (vp_updL ps n st0) mt al dp pl pe pm) H := hP
          have hD : va_D A (w1 a cI cJ (nI T) (nI L) op fa fb fc inp out rg lo so st (vp_updL ps n st0) mt al dp pl pe pm) := hD
          refine lv_iinc (v := (nI n) - 1) (lv' := [(5, .int ((nI n) - 1)), (3, .int 0), (6, .long st0), (4, .int rd), (0, .ref (a 0)), (1, .long al0)]) hx hb dX1_findMeetings_125 hl (k := 2) rfl (by rw [Int32.sub_eq_add_neg]; rfl) (by decide) rfl (fun ls hl => ?_)
          refine lv_goto (tgt := 75) hx hb dX1_findMeetings_128 (by decide) ?_
          exact ih (by omega) _ _ H locs ls hP hD hS (lv_sub hl [0, 1, 3, 4, 5] rfl)
        · refine lv_iconst (v := 1) hx hb dX1_findMeetings_110 (by decide) ?_
          refine lv_goto (tgt := 115) hx hb dX1_findMeetings_111 (by decide) ?_
          refine lv_istore_n (lv' := [(3, .int 1), (6, .long st0), (5, .int (nI n)), (4, .int rd), (0, .ref (a 0)), (1, .long al0)]) hx hb dX1_findMeetings_115 rfl hl (by decide) rfl (fun ls hl => ?_)
          refine lv_aload_n hx hb dX1_findMeetings_116 rfl (lv_at hl 4 rfl) ?_
          refine va_get (D := (dC, dI)) (ci := 0) (v := .ref (a 11)) (C := RX1) (T := TX1) (N := 19) hx hb hts in_X1 hown hK hP 0 rfl rfl 12 (by decide) (hts _ q38) (fun _ h9 => h9) rfl dX1_findMeetings_117 ?_
          refine lv_iload hx hb dX1_findMeetings_120 (lv_at hl 2 rfl) ?_
          refine lv_lload hx hb dX1_findMeetings_122 (lv_at hl 1 rfl) ?_
          refine n_last hx hb hK hP hD hS 11 1 rfl rfl n rfl (by omega) (by decide) dX1_findMeetings_124 (fun H locs hP hD hS => ?_)
          have hP : va_P (dC, dI) vwCl (w1 a cI cJ (nI T) (nI L) op fa fb fc inp out rg lo so st (vp_updL ps n st0) mt al dp pl pe pm) H := hP
          have hD : va_D A (w1 a cI cJ (nI T) (nI L) op fa fb fc inp out rg lo so st (vp_updL ps n st0) mt al dp pl pe pm) := hD
          refine lv_iinc (v := (nI n) - 1) (lv' := [(5, .int ((nI n) - 1)), (3, .int 1), (6, .long st0), (4, .int rd), (0, .ref (a 0)), (1, .long al0)]) hx hb dX1_findMeetings_125 hl (k := 2) rfl (by rw [Int32.sub_eq_add_neg]; rfl) (by decide) rfl (fun ls hl => ?_)
          refine lv_goto (tgt := 75) hx hb dX1_findMeetings_128 (by decide) ?_
          exact ih (by omega) _ _ H locs ls hP hD hS (lv_sub hl [0, 1, 3, 4, 5] rfl)
set_option maxHeartbeats 4000000 in
set_option maxRecDepth 100000 in
theorem lpX1_find3 (SF : CallFix p m c cX1_findMeetings 8 s args lw_all RX1) (hK : va_K (dC, dI) vwCl (tyL cI cJ) s) (hA : ∀ q : Nat, s.heap.size ≤ q → A q) (T L : Nat) (hL : L ≤ 32) (op fa fb fc inp out rg lo so st : Nat → Int32) (al dp : Int32) (pl pe pm : Nat → Int32) (mt : Nat → Int32) (al0 : Int64)
    (kk : ∀ (ps : Nat → Int64) (H : Heap) (locs : List Loc) (ls : Array Slot), va_P (dC, dI) vwCl (w1 a cI cJ (nI T) (nI L) op fa fb fc inp out rg lo so st ps mt al dp pl pe pm) H → va_D A (w1 a cI cJ (nI T) (nI L) op fa fb fc inp out rg lo so st ps mt al dp pl pe pm) → va_S A s.heap H locs → lv_has ls 8 [(0, .ref (a 0)), (1, .long al0)] → W p l e ({ frames := 2, cells := 0, slots := 0, locals := 44 } : Room) s m args below meth c H locs 0 0 Q (F0 m 137 ls [])) :
    ∀ (n i : Nat), i + n = 40 → ∀ (ch : Int32) (ps : Nat → Int64) (H : Heap) (locs : List Loc) (ls : Array Slot), va_P (dC, dI) vwCl (w1 a cI cJ (nI T) (nI L) op fa fb fc inp out rg lo so st ps mt al dp pl pe pm) H → va_D A (w1 a cI cJ (nI T) (nI L) op fa fb fc inp out rg lo so st ps mt al dp pl pe pm) → va_S A s.heap H locs → lv_has ls 8 [(4, .int (nI i)), (3, .int ch), (0, .ref (a 0)), (1, .long al0)] → W p l e ({ frames := 2, cells := 0, slots := 0, locals := 44 } : Room) s m args below meth c H locs 0 0 Q (F0 m 54 ls []) := by
  obtain ⟨hx, hb, hml, hown, hts⟩ := id SF
  intro n
  induction n with
  | zero =>
    intro i hi ch ps H locs ls hP hD hS hl
    refine lv_iload hx hb dX1_findMeetings_54 (lv_at hl 0 rfl) ?_
    refine lv_bipush (v := 40) hx hb dX1_findMeetings_56 (by decide) ?_
    refine lv_icmp_ge (tgt := 137) hx hb dX1_findMeetings_58 (by decide) (fun cz => ?_) (fun cz => ?_)
    · exact kk ps H locs ls hP hD hS (lv_sub hl [2, 3] rfl)
    · exact absurd (nI_le (a := 40) (b := i) (by omega) (by omega)) cz
  | succ n ih =>
    intro i hi ch ps H locs ls hP hD hS hl
    refine lv_iload hx hb dX1_findMeetings_54 (lv_at hl 0 rfl) ?_
    refine lv_bipush (v := 40) hx hb dX1_findMeetings_56 (by decide) ?_
    refine lv_icmp_ge (tgt := 137) hx hb dX1_findMeetings_58 (by decide) (fun cs => ?_) (fun cs => ?_)
    · exact absurd cs (nI_ge (a := i) (b := 40) (by omega) (by omega))
    · refine lv_iload_n hx hb dX1_findMeetings_61 rfl (lv_at hl 1 rfl) ?_
      refine lv_if_eq (tgt := 137) hx hb dX1_findMeetings_62 (by decide) (fun c1 => ?_) (fun c1 => ?_)
      · exact kk ps H locs ls hP hD hS (lv_sub hl [2, 3] rfl)
      · refine lv_iconst (v := 0) hx hb dX1_findMeetings_65 (by decide) ?_
        refine lv_istore_n (lv' := [(3, .int 0), (4, .int (nI i)), (0, .ref (a 0)), (1, .long al0)]) hx hb dX1_findMeetings_66 rfl hl (by decide) rfl (fun ls hl => ?_)
        refine lv_aload_n hx hb dX1_findMeetings_67 rfl (lv_at hl 2 rfl) ?_
        refine va_get (D := (dC, dI)) (ci := 0) (v := .int (nI L)) (C := RX1) (T := TX1) (N := 19) hx hb hts in_X1 hown hK hP 0 rfl rfl 1 (by decide) (hts _ q27) (fun _ h9 => h9) rfl dX1_findMeetings_68 ?_
        refine lv_iconst (v := 1) hx hb dX1_findMeetings_71 (by decide) ?_
        refine lv_isub hx hb dX1_findMeetings_72 ?_
        refine lv_istore (lv' := [(5, .int ((nI L) - 1)), (3, .int 0), (4, .int (nI i)), (0, .ref (a 0)), (1, .long al0)]) hx hb dX1_findMeetings_73 hl (by decide) rfl (fun ls hl => ?_)
        refine lpX1_find2 SF hK hA T L hL op fa fb fc inp out rg lo so st al dp pl pe pm mt al0 (nI i) ?_ L (Nat.le_refl _) 0 ps H locs ls hP hD hS hl
        intro ch ps H locs ls hP hD hS hl
        refine lv_iinc (v := nI (i + 1)) (lv' := [(4, .int (nI (i + 1))), (3, .int ch), (0, .ref (a 0)), (1, .long al0)]) hx hb dX1_findMeetings_131 hl (k := 1) rfl (nI_1 _) (by decide) rfl (fun ls hl => ?_)
        refine lv_goto (tgt := 54) hx hb dX1_findMeetings_134 (by decide) ?_
        exact ih (i + 1) (by omega) ch ps H locs ls hP hD hS hl
set_option maxHeartbeats 4000000 in
set_option maxRecDepth 100000 in
theorem lpX1_find4 (SF : CallFix p m c cX1_findMeetings 8 s args lw_all RX1) (hK : va_K (dC, dI) vwCl (tyL cI cJ) s) (hA : ∀ q : Nat, s.heap.size ≤ q → A q) (T L : Nat) (hL : L ≤ 32) (op fa fb fc inp out rg lo so st : Nat → Int32) (al dp : Int32) (pl pe pm : Nat → Int32) (ps : Nat → Int64) 
    (kk : ∀ (mt : Nat → Int32) (H : Heap) (locs : List Loc) (ls : Array Slot), va_P (dC, dI) vwCl (w1 a cI cJ (nI T) (nI L) op fa fb fc inp out rg lo so st ps mt al dp pl pe pm) H → va_D A (w1 a cI cJ (nI T) (nI L) op fa fb fc inp out rg lo so st ps mt al dp pl pe pm) → va_S A s.heap H locs → lv_has ls 8 [(4, .int (nI L)), (0, .ref (a 0))] → W p l e ({ frames := 2, cells := 0, slots := 0, locals := 44 } : Room) s m args below meth c H locs 0 0 Q (F0 m 168 ls [])) :
    ∀ (n i : Nat), i + n = L → ∀ (mt : Nat → Int32) (H : Heap) (locs : List Loc) (ls : Array Slot), va_P (dC, dI) vwCl (w1 a cI cJ (nI T) (nI L) op fa fb fc inp out rg lo so st ps mt al dp pl pe pm) H → va_D A (w1 a cI cJ (nI T) (nI L) op fa fb fc inp out rg lo so st ps mt al dp pl pe pm) → va_S A s.heap H locs → lv_has ls 8 [(4, .int (nI i)), (0, .ref (a 0))] → W p l e ({ frames := 2, cells := 0, slots := 0, locals := 44 } : Room) s m args below meth c H locs 0 0 Q (F0 m 140 ls []) := by
  obtain ⟨hx, hb, hml, hown, hts⟩ := id SF
  intro n
  induction n with
  | zero =>
    intro i hi mt H locs ls hP hD hS hl
    refine lv_iload hx hb dX1_findMeetings_140 (lv_at hl 0 rfl) ?_
    refine lv_aload_n hx hb dX1_findMeetings_142 rfl (lv_at hl 1 rfl) ?_
    refine va_get (D := (dC, dI)) (ci := 0) (v := .int (nI L)) (C := RX1) (T := TX1) (N := 19) hx hb hts in_X1 hown hK hP 0 rfl rfl 1 (by decide) (hts _ q27) (fun _ h9 => h9) rfl dX1_findMeetings_143 ?_
    refine lv_icmp_ge (tgt := 168) hx hb dX1_findMeetings_146 (by decide) (fun cz => ?_) (fun cz => ?_)
    · obtain rfl : i = L := by omega
      exact kk mt H locs ls hP hD hS hl
    · exact absurd (nI_le (a := L) (b := i) (by omega) (by omega)) cz
  | succ n ih =>
    intro i hi mt H locs ls hP hD hS hl
    refine lv_iload hx hb dX1_findMeetings_140 (lv_at hl 0 rfl) ?_
    refine lv_aload_n hx hb dX1_findMeetings_142 rfl (lv_at hl 1 rfl) ?_
    refine va_get (D := (dC, dI)) (ci := 0) (v := .int (nI L)) (C := RX1) (T := TX1) (N := 19) hx hb hts in_X1 hown hK hP 0 rfl rfl 1 (by decide) (hts _ q27) (fun _ h9 => h9) rfl dX1_findMeetings_143 ?_
    refine lv_icmp_ge (tgt := 168) hx hb dX1_findMeetings_146 (by decide) (fun cs => ?_) (fun cs => ?_)
    · exact absurd cs (nI_ge (a := i) (b := L) (by omega) (by omega))
    · refine lv_aload_n hx hb dX1_findMeetings_149 rfl (lv_at hl 1 rfl) ?_
      refine va_get (D := (dC, dI)) (ci := 0) (v := .ref (a 12)) (C := RX1) (T := TX1) (N := 19) hx hb hts in_X1 hown hK hP 0 rfl rfl 13 (by decide) (hts _ q39) (fun _ h9 => h9) rfl dX1_findMeetings_150 ?_
      refine lv_iload hx hb dX1_findMeetings_153 (lv_at hl 0 rfl) ?_
      refine lv_aload_n hx hb dX1_findMeetings_155 rfl (lv_at hl 1 rfl) ?_
      refine lv_iload hx hb dX1_findMeetings_156 (lv_at hl 0 rfl) ?_
      refine n_calli (As := [.int (nI i)]) (rest := [.int (nI i), .ref (a 12)]) SF (mX1_nearest l dC dI a cI cJ _ T L op fa fb fc inp out rg lo so st ps mt al dp pl pe pm i hL (by omega)) (cwV 1 hts (lw_V q114 q116 qs3 q16 q117) rfl rfl rfl (by decide +kernel) ⟨Nat.le_of_ble_eq_true rfl, Nat.le_of_ble_eq_true rfl⟩) hK hP hD hS hA 0 0 rfl rfl rfl rfl hl.1 rfl (Nat.le_of_ble_eq_true rfl) dX1_findMeetings_158 ⟨Nat.le_of_ble_eq_true rfl, Nat.le_of_ble_eq_true rfl⟩ (fun r1 _ H locs _ hP hD hS => ?_)
      refine n_iast hx hb hK hP hD hS 12 0 rfl rfl i rfl (by omega) (by decide) dX1_findMeetings_161 (fun H locs hP hD hS => ?_)
      have hP : va_P (dC, dI) vwCl (w1 a cI cJ (nI T) (nI L) op fa fb fc inp out rg lo so st ps (upd mt i r1) al dp pl pe pm) H := hP
      have hD : va_D A (w1 a cI cJ (nI T) (nI L) op fa fb fc inp out rg lo so st ps (upd mt i r1) al dp pl pe pm) := hD
      refine lv_iinc (v := nI (i + 1)) (lv' := [(4, .int (nI (i + 1))), (0, .ref (a 0))]) hx hb dX1_findMeetings_162 hl (k := 0) rfl (nI_1 _) (by decide) rfl (fun ls hl => ?_)
      refine lv_goto (tgt := 140) hx hb dX1_findMeetings_165 (by decide) ?_
      exact ih (i + 1) (by omega) _ H locs ls hP hD hS hl
end FindMeetings
set_option maxHeartbeats 4000000 in
set_option maxRecDepth 100000 in
theorem mX1_findMeetings (l : Launch) (dC : Nat → ClassId) (dI : Nat → Nat → Nat) (a : Nat → Nat) (cI cJ : ClassId) (sz : Nat) (T L : Nat) (op fa fb fc inp out rg lo so st : Nat → Int32) (ps : Nat → Int64) (mt : Nat → Int32) (al dp : Int32) (pl pe pm : Nat → Int32)  (hL : L ≤ 32) : Met l yX1_findMeetings (ws_ yX1_findMeetings cX1_findMeetings 8 none) ({ frames := 2, cells := 0, slots := 0, locals := 44 } : Room) (va_Pc [.ref (a 0)] (prW dC dI (tyL cI cJ) sz (w1 a cI cJ (nI T) (nI L) op fa fb fc inp out rg lo so st ps mt al dp pl pe pm))) (va_Qv (fun (_ : (Nat → Int64) × (Nat → Int32)) => True) (fun u => poW dC dI (tyL cI cJ) (va_A (w1 a cI cJ (nI T) (nI L) op fa fb fc inp out rg lo so st ps mt al dp pl pe pm) sz) (w1 a cI cJ (nI T) (nI L) op fa fb fc inp out rg lo so st u.1 u.2 al dp pl pe pm)) (va_A (w1 a cI cJ (nI T) (nI L) op fa fb fc inp out rg lo so st ps mt al dp pl pe pm) sz)) 0 0 (va_A (w1 a cI cJ (nI T) (nI L) op fa fb fc inp out rg lo so st ps mt al dp pl pe pm) sz) := by
  refine n_met (by decide) (Nat.le_of_ble_eq_true rfl) ?_
  intro p e s m below meth c ls SF hr hlocks hnm hsz hK hP hD hA hl
  subst hsz
  have hS : va_S (va_A (w1 a cI cJ (nI T) (nI L) op fa fb fc inp out rg lo so st ps mt al dp pl pe pm) s.heap.size) s.heap s.heap [] := va_S.rf
  generalize va_A (w1 a cI cJ (nI T) (nI L) op fa fb fc inp out rg lo so st ps mt al dp pl pe pm) s.heap.size = A at hD hA hS ⊢
  obtain ⟨hx, hb, hml, hown, hts⟩ := id SF
  have hown : s.vm.findClass RX1 = some m.cls := hown
  have SF : CallFix p m c cX1_findMeetings 8 s _ lw_all RX1 := SF
  have hl : lv_has ls 8 [(0, .ref (a 0))] := hl
  refine lv_lconst (v := 1) hx hb dX1_findMeetings_0 (by decide) ?_
  refine lv_aload_n hx hb dX1_findMeetings_1 rfl (lv_at hl 0 rfl) ?_
  refine va_get (D := (dC, dI)) (ci := 0) (v := .int (nI L)) (C := RX1) (T := TX1) (N := 19) hx hb hts in_X1 hown hK hP 0 rfl rfl 1 (by decide) (hts _ q27) (fun _ h9 => h9) rfl dX1_findMeetings_2 ?_
  refine lv_iconst (v := 1) hx hb dX1_findMeetings_5 (by decide) ?_
  refine lv_iadd hx hb dX1_findMeetings_6 ?_
  refine lv_lshl hx hb dX1_findMeetings_7 rfl ?_
  refine lv_lconst (v := 1) hx hb dX1_findMeetings_8 (by decide) ?_
  refine lv_lsub hx hb dX1_findMeetings_9 ?_
  refine lv_topl (fun al0 eal0 => ?_)
  refine lv_lstore_n (lv' := [(1, .long al0), (0, .ref (a 0))]) hx hb dX1_findMeetings_10 rfl hl (by decide) rfl (fun ls hl => ?_)
  refine lv_iconst (v := 0) hx hb dX1_findMeetings_11 (by decide) ?_
  refine lv_istore_n (lv' := [(3, .int 0), (1, .long al0), (0, .ref (a 0))]) hx hb dX1_findMeetings_12 rfl hl (by decide) rfl (fun ls hl => ?_)
  refine lpX1_find1 SF hK T L hL op fa fb fc inp out rg lo so st al dp pl pe pm mt al0 ?_ L 0 (by omega) ps _ _ _ hP hD hS (lv_sub hl [0, 2, 1] rfl)
  intro ps1 H locs ls hP hD hS hl
  refine lv_aload_n hx hb dX1_findMeetings_34 rfl (lv_at hl 1 rfl) ?_
  refine va_get (D := (dC, dI)) (ci := 0) (v := .ref (a 11)) (C := RX1) (T := TX1) (N := 19) hx hb hts in_X1 hown hK hP 0 rfl rfl 12 (by decide) (hts _ q38) (fun _ h9 => h9) rfl dX1_findMeetings_35 ?_
  refine lv_aload_n hx hb dX1_findMeetings_38 rfl (lv_at hl 1 rfl) ?_
  refine va_get (D := (dC, dI)) (ci := 0) (v := .int (nI L)) (C := RX1) (T := TX1) (N := 19) hx hb hts in_X1 hown hK hP 0 rfl rfl 1 (by decide) (hts _ q27) (fun _ h9 => h9) rfl dX1_findMeetings_39 ?_
  refine lv_lconst (v := 1) hx hb dX1_findMeetings_42 (by decide) ?_
  refine lv_aload_n hx hb dX1_findMeetings_43 rfl (lv_at hl 1 rfl) ?_
  refine va_get (D := (dC, dI)) (ci := 0) (v := .int (nI L)) (C := RX1) (T := TX1) (N := 19) hx hb hts in_X1 hown hK hP 0 rfl rfl 1 (by decide) (hts _ q27) (fun _ h9 => h9) rfl dX1_findMeetings_44 ?_
  refine lv_lshl hx hb dX1_findMeetings_47 rfl ?_
  refine n_last hx hb hK hP hD hS 11 1 rfl rfl L rfl (by omega) (by decide) dX1_findMeetings_48 (fun H locs hP hD hS => ?_)
  have hP : va_P (dC, dI) vwCl (w1 a cI cJ (nI T) (nI L) op fa fb fc inp out rg lo so st (vp_updL ps1 L (1 <<< ((nI L).toInt64 &&& 63))) mt al dp pl pe pm) H := hP
  have hD : va_D A (w1 a cI cJ (nI T) (nI L) op fa fb fc inp out rg lo so st (vp_updL ps1 L (1 <<< ((nI L).toInt64 &&& 63))) mt al dp pl pe pm) := hD
  refine lv_iconst (v := 1) hx hb dX1_findMeetings_49 (by decide) ?_
  refine lv_istore_n (lv' := [(3, .int 1), (0, .ref (a 0)), (1, .long al0)]) hx hb dX1_findMeetings_50 rfl hl (by decide) rfl (fun ls hl => ?_)
  refine lv_iconst (v := 0) hx hb dX1_findMeetings_51 (by decide) ?_
  refine lv_istore (lv' := [(4, .int 0), (3, .int 1), (0, .ref (a 0)), (1, .long al0)]) hx hb dX1_findMeetings_52 hl (by decide) rfl (fun ls hl => ?_)
  refine lpX1_find3 SF hK hA T L hL op fa fb fc inp out rg lo so st al dp pl pe pm mt al0 ?_ 40 0 (by omega) 1 _ _ _ _ hP hD hS hl
  intro ps2 H locs ls hP hD hS hl
  refine lv_iconst (v := 0) hx hb dX1_findMeetings_137 (by decide) ?_
  refine lv_istore (lv' := [(4, .int 0), (0, .ref (a 0)), (1, .long al0)]) hx hb dX1_findMeetings_138 hl (by decide) rfl (fun ls hl => ?_)
  refine lpX1_find4 SF hK hA T L hL op fa fb fc inp out rg lo so st al dp pl pe pm ps2 ?_ L 0 (by omega) mt _ _ _ hP hD hS (lv_sub hl [0, 1] rfl)
  intro mt1 H locs ls hP hD hS hl
  exact W.vret hx hb hr (fun t9 h9 hW9 => ⟨⟨(ps2, mt1), rfl, trivial, by rw [h9]; exact hP, va_K.moved hW9.alike hK, hD⟩, hS.F h9⟩) hS.2.2 dX1_findMeetings_168
end
section
/-! contracts: WarpMachineModel, all but its making -/
set_option maxHeartbeats 4000000 in
set_option maxRecDepth 100000 in
/-- clear(): no line is left -/
theorem mX2_clear (l : Launch) (dC : Nat → ClassId) (dI : Nat → Nat → Nat) (a : Nat → Nat) (cI cJ : ClassId) (sz : Nat) (T L : Nat) (op fa fb fc inp out rg lo so st : Nat → Int32)   : Met l yX2_clear (ws_ yX2_clear cX2_clear 1 none) ({ frames := 0, cells := 0, slots := 0, locals := 0 } : Room) (va_Pc [.ref (a 0)] (prW dC dI (tyL cI cJ) sz (w2 a cI (nI T) (nI L) op fa fb fc inp out rg lo so st))) (va_Qv (fun (_ : Unit) => True) (fun _ => poW dC dI (tyL cI cJ) (va_A (w2 a cI (nI T) (nI L) op fa fb fc inp out rg lo so st) sz) (w2 a cI (nI T) 0 op fa fb fc inp out rg lo so st)) (va_A (w2 a cI (nI T) (nI L) op fa fb fc inp out rg lo so st) sz)) 0 0 (va_A (w2 a cI (nI T) (nI L) op fa fb fc inp out rg lo so st) sz) := by
  refine n_met (by decide) (Nat.le_of_ble_eq_true rfl) ?_
  intro p e s m below meth c ls SF hr hlocks hnm hsz hK hP hD hA hl
  subst hsz
  have hS : va_S (va_A (w2 a cI (nI T) (nI L) op fa fb fc inp out rg lo so st) s.heap.size) s.heap s.heap [] := va_S.rf
  generalize va_A (w2 a cI (nI T) (nI L) op fa fb fc inp out rg lo so st) s.heap.size = A at hD hA hS ⊢
  obtain ⟨hx, hb, hml, hown, hts⟩ := id SF
  have hown : s.vm.findClass RX2 = some m.cls := hown
  have SF : CallFix p m c cX2_clear 1 s _ lw_all RX2 := SF
  have hl : lv_has ls 1 [(0, .ref (a 0))] := hl
  refine lv_aload_n hx hb dX2_clear_0 rfl (lv_at hl 0 rfl) ?_
  refine lv_iconst (v := 0) hx hb dX2_clear_1 (by decide) ?_
  refine va_put (D := (dC, dI)) (ci := 1) (v := .int 0) (ty := .int) (C := RX2) (T := TX2) (N := 12) hx hb hts in_X2 tyX2 tyX2_ok nmX2 hown hK hP hD hS 0 rfl rfl 1 (by decide) (hts _ q184) (fun _ h9 => h9) rfl (by decide +kernel) rfl rfl (Nat.le_of_ble_eq_true rfl) dX2_clear_2 (fun H locs hP hD hS => ?_)
  have hP : va_P (dC, dI) vwCl (w2 a cI (nI T) 0 op fa fb fc inp out rg lo so st) H := hP
  have hD : va_D A (w2 a cI (nI T) 0 op fa fb fc inp out rg lo so st) := hD
  exact W.vret hx hb hr (fun t9 h9 hW9 => ⟨⟨(), rfl, trivial, by rw [h9]; exact hP, va_K.moved hW9.alike hK, hD⟩, hS.F h9⟩) hS.2.2 dX2_clear_5
set_option maxHeartbeats 4000000 in
set_option maxRecDepth 100000 in
theorem mX2_input (l : Launch) (dC : Nat → ClassId) (dI : Nat → Nat → Nat) (a : Nat → Nat) (cI cJ : ClassId) (sz : Nat) (T L : Nat) (op fa fb fc inp out rg lo so st : Nat → Int32) (k v : Int32)  : Met l yX2_input (ws_ yX2_input cX2_input 3 none) ({ frames := 0, cells := 0, slots := 0, locals := 0 } : Room) (va_Pc [.ref (a 0), .int k, .int v] (prW dC dI (tyL cI cJ) sz (w2 a cI (nI T) (nI L) op fa fb fc inp out rg lo so st))) (va_Qv (fun (_ : Unit) => True) (fun _ => poW dC dI (tyL cI cJ) (va_A (w2 a cI (nI T) (nI L) op fa fb fc inp out rg lo so st) sz) (w2 a cI (nI T) (nI L) op fa fb fc (upd inp (m16 k) v) out rg lo so st)) (va_A (w2 a cI (nI T) (nI L) op fa fb fc inp out rg lo so st) sz)) 0 0 (va_A (w2 a cI (nI T) (nI L) op fa fb fc inp out rg lo so st) sz) := by
  refine n_met (by decide) (Nat.le_of_ble_eq_true rfl) ?_
  intro p e s m below meth c ls SF hr hlocks hnm hsz hK hP hD hA hl
  subst hsz
  have hS : va_S (va_A (w2 a cI (nI T) (nI L) op fa fb fc inp out rg lo so st) s.heap.size) s.heap s.heap [] := va_S.rf
  generalize va_A (w2 a cI (nI T) (nI L) op fa fb fc inp out rg lo so st) s.heap.size = A at hD hA hS ⊢
  obtain ⟨hx, hb, hml, hown, hts⟩ := id SF
  have hown : s.vm.findClass RX2 = some m.cls := hown
  have SF : CallFix p m c cX2_input 3 s _ lw_all RX2 := SF
  have hl : lv_has ls 3 [(0, .ref (a 0)), (1, .int k), (2, .int v)] := hl
  refine lv_aload_n hx hb dX2_input_0 rfl (lv_at hl 0 rfl) ?_
  refine va_get (D := (dC, dI)) (ci := 1) (v := .ref (a 5)) (C := RX2) (T := TX2) (N := 12) hx hb hts in_X2 hown hK hP 0 rfl rfl 6 (by decide) (hts _ q189) (fun _ h9 => h9) rfl dX2_input_1 ?_
  refine lv_iload_n hx hb dX2_input_4 rfl (lv_at hl 1 rfl) ?_
  refine lv_bipush (v := 15) hx hb dX2_input_5 (by decide) ?_
  refine lv_iand hx hb dX2_input_7 ?_
  refine lv_iload_n hx hb dX2_input_8 rfl (lv_at hl 2 rfl) ?_
  refine n_iast hx hb hK hP hD hS 5 0 rfl rfl (m16 k) (e16 k) (m16_lt k) (by decide) dX2_input_9 (fun H locs hP hD hS => ?_)
  have hP : va_P (dC, dI) vwCl (w2 a cI (nI T) (nI L) op fa fb fc (upd inp (m16 k) v) out rg lo so st) H := hP
  have hD : va_D A (w2 a cI (nI T) (nI L) op fa fb fc (upd inp (m16 k) v) out rg lo so st) := hD
  exact W.vret hx hb hr (fun t9 h9 hW9 => ⟨⟨(), rfl, trivial, by rw [h9]; exact hP, va_K.moved hW9.alike hK, hD⟩, hS.F h9⟩) hS.2.2 dX2_input_10
set_option maxHeartbeats 4000000 in
set_option maxRecDepth 100000 in
theorem mX2_output (l : Launch) (dC : Nat → ClassId) (dI : Nat → Nat → Nat) (a : Nat → Nat) (cI cJ : ClassId) (sz : Nat) (T L : Nat) (op fa fb fc inp out rg lo so st : Nat → Int32) (k : Int32)  : Met l yX2_output (ws_ yX2_output cX2_output 2 (some .int)) ({ frames := 0, cells := 0, slots := 0, locals := 0 } : Room) (va_Pc [.ref (a 0), .int k] (prW dC dI (tyL cI cJ) sz (w2 a cI (nI T) (nI L) op fa fb fc inp out rg lo so st))) (va_Qi (fun (r : Int32) (_ : Unit) => r = out (m16 k)) (fun _ => poW dC dI (tyL cI cJ) (va_A (w2 a cI (nI T) (nI L) op fa fb fc inp out rg lo so st) sz) (w2 a cI (nI T) (nI L) op fa fb fc inp out rg lo so st)) (va_A (w2 a cI (nI T) (nI L) op fa fb fc inp out rg lo so st) sz)) 0 0 (va_A (w2 a cI (nI T) (nI L) op fa fb fc inp out rg lo so st) sz) := by
  refine n_met (by decide) (Nat.le_of_ble_eq_true rfl) ?_
  intro p e s m below meth c ls SF hr hlocks hnm hsz hK hP hD hA hl
  subst hsz
  have hS : va_S (va_A (w2 a cI (nI T) (nI L) op fa fb fc inp out rg lo so st) s.heap.size) s.heap s.heap [] := va_S.rf
  generalize va_A (w2 a cI (nI T) (nI L) op fa fb fc inp out rg lo so st) s.heap.size = A at hD hA hS ⊢
  obtain ⟨hx, hb, hml, hown, hts⟩ := id SF
  have hown : s.vm.findClass RX2 = some m.cls := hown
  have SF : CallFix p m c cX2_output 2 s _ lw_all RX2 := SF
  have hl : lv_has ls 2 [(0, .ref (a 0)), (1, .int k)] := hl
  refine lv_aload_n hx hb dX2_output_0 rfl (lv_at hl 0 rfl) ?_
  refine va_get (D := (dC, dI)) (ci := 1) (v := .ref (a 6)) (C := RX2) (T := TX2) (N := 12) hx hb hts in_X2 hown hK hP 0 rfl rfl 7 (by decide) (hts _ q190) (fun _ h9 => h9) rfl dX2_output_1 ?_
  refine lv_iload_n hx hb dX2_output_4 rfl (lv_at hl 1 rfl) ?_
  refine lv_bipush (v := 15) hx hb dX2_output_5 (by decide) ?_
  refine lv_iand hx hb dX2_output_7 ?_
  refine n_iald hx hb hK hP 6 0 rfl rfl (m16 k) (e16 k) (m16_lt k) (by decide) dX2_output_8 ?_
  exact W.iret (v := out (m16 k)) hx hb hr (fun t9 h9 hW9 => ⟨⟨_, (), rfl, rfl, by rw [h9]; exact hP, va_K.moved hW9.alike hK, hD⟩, hS.F h9⟩) hS.2.2 dX2_output_9
set_option maxHeartbeats 4000000 in
set_option maxRecDepth 100000 in
theorem mX2_missing (l : Launch) (dC : Nat → ClassId) (dI : Nat → Nat → Nat) (a : Nat → Nat) (cI cJ : ClassId) (sz : Nat) (T L : Nat) (op fa fb fc inp out rg lo so st : Nat → Int32) (k : Int32)  : Met l yX2_missing (ws_ yX2_missing cX2_missing 2 (some .boolean)) ({ frames := 0, cells := 0, slots := 0, locals := 0 } : Room) (va_Pc [.ref (a 0), .int k] (prW dC dI (tyL cI cJ) sz (w2 a cI (nI T) (nI L) op fa fb fc inp out rg lo so st))) (va_Qi (fun (r : Int32) (_ : Unit) => r = (if ¬ k < 0 ∧ ¬ nI T ≤ k then 0 else 1)) (fun _ => poW dC dI (tyL cI cJ) (va_A (w2 a cI (nI T) (nI L) op fa fb fc inp out rg lo so st) sz) (w2 a cI (nI T) (nI L) op fa fb fc inp out rg lo so st)) (va_A (w2 a cI (nI T) (nI L) op fa fb fc inp out rg lo so st) sz)) 0 0 (va_A (w2 a cI (nI T) (nI L) op fa fb fc inp out rg lo so st) sz) := by
  refine n_met (by decide) (Nat.le_of_ble_eq_true rfl) ?_
  intro p e s m below meth c ls SF hr hlocks hnm hsz hK hP hD hA hl
  subst hsz
  have hS : va_S (va_A (w2 a cI (nI T) (nI L) op fa fb fc inp out rg lo so st) s.heap.size) s.heap s.heap [] := va_S.rf
  generalize va_A (w2 a cI (nI T) (nI L) op fa fb fc inp out rg lo so st) s.heap.size = A at hD hA hS ⊢
  obtain ⟨hx, hb, hml, hown, hts⟩ := id SF
  have hown : s.vm.findClass RX2 = some m.cls := hown
  have SF : CallFix p m c cX2_missing 2 s _ lw_all RX2 := SF
  have hl : lv_has ls 2 [(0, .ref (a 0)), (1, .int k)] := hl
  refine lv_iload_n hx hb dX2_missing_0 rfl (lv_at hl 1 rfl) ?_
  refine lv_if_lt (tgt := 12) hx hb dX2_missing_1 (by decide) (fun c1 => ?_) (fun c1 => ?_)
  · refine lv_iconst (v := 1) hx hb dX2_missing_12 (by decide) ?_
    refine lv_goto (tgt := 17) hx hb dX2_missing_13 (by decide) ?_
    exact W.zret (v := 1) hx hb hr rfl (fun t9 h9 hW9 => ⟨⟨_, (), rfl, (if_neg (fun q => q.1 c1)).symm, by rw [h9]; exact hP, va_K.moved hW9.alike hK, hD⟩, hS.F h9⟩) hS.2.2 dX2_missing_17
  · refine lv_iload_n hx hb dX2_missing_4 rfl (lv_at hl 1 rfl) ?_
    refine lv_aload_n hx hb dX2_missing_5 rfl (lv_at hl 0 rfl) ?_
    refine va_get (D := (dC, dI)) (ci := 1) (v := .int (nI T)) (C := RX2) (T := TX2) (N := 12) hx hb hts in_X2 hown hK hP 0 rfl rfl 0 (by decide) (hts _ q183) (fun _ h9 => h9) rfl dX2_missing_6 ?_
    refine lv_icmp_lt (tgt := 16) hx hb dX2_missing_9 (by decide) (fun c2 => ?_) (fun c2 => ?_)
    · refine lv_iconst (v := 0) hx hb dX2_missing_16 (by decide) ?_
      exact W.zret (v := 0) hx hb hr rfl (fun t9 h9 hW9 => ⟨⟨_, (), rfl, (if_pos ⟨c1, Int32.not_le.mpr c2⟩).symm, by rw [h9]; exact hP, va_K.moved hW9.alike hK, hD⟩, hS.F h9⟩) hS.2.2 dX2_missing_17
    · refine lv_iconst (v := 1) hx hb dX2_missing_12 (by decide) ?_
      refine lv_goto (tgt := 17) hx hb dX2_missing_13 (by decide) ?_
      exact W.zret (v := 1) hx hb hr rfl (fun t9 h9 hW9 => ⟨⟨_, (), rfl, (if_neg (fun q => q.2 (Int32.not_lt.mp c2))).symm, by rw [h9]; exact hP, va_K.moved hW9.alike hK, hD⟩, hS.F h9⟩) hS.2.2 dX2_missing_17
set_option maxHeartbeats 4000000 in
set_option maxRecDepth 100000 in
theorem mX2_emit (l : Launch) (dC : Nat → ClassId) (dI : Nat → Nat → Nat) (a : Nat → Nat) (cI cJ : ClassId) (sz : Nat) (T L : Nat) (op fa fb fc inp out rg lo so st : Nat → Int32) (o x y z : Int32) (hL : L ≤ 32) : Met l yX2_emit (ws_ yX2_emit cX2_emit 5 (some .int)) ({ frames := 0, cells := 0, slots := 0, locals := 0 } : Room) (va_Pc [.ref (a 0), .int o, .int x, .int y, .int z] (prW dC dI (tyL cI cJ) sz (w2 a cI (nI T) (nI L) op fa fb fc inp out rg lo so st))) (va_Qi (fun (r : Int32) u => emR L op fa fb fc o x y z r u) (fun u => poW dC dI (tyL cI cJ) (va_A (w2 a cI (nI T) (nI L) op fa fb fc inp out rg lo so st) sz) (w2 a cI (nI T) (nI u.1) u.2.1 u.2.2.1 u.2.2.2.1 u.2.2.2.2 inp out rg lo so st)) (va_A (w2 a cI (nI T) (nI L) op fa fb fc inp out rg lo so st) sz)) 0 0 (va_A (w2 a cI (nI T) (nI L) op fa fb fc inp out rg lo so st) sz) := by
  refine n_met (by decide) (Nat.le_of_ble_eq_true rfl) ?_
  intro p e s m below meth c ls SF hr hlocks hnm hsz hK hP hD hA hl
  subst hsz
  have hS : va_S (va_A (w2 a cI (nI T) (nI L) op fa fb fc inp out rg lo so st) s.heap.size) s.heap s.heap [] := va_S.rf
  generalize va_A (w2 a cI (nI T) (nI L) op fa fb fc inp out rg lo so st) s.heap.size = A at hD hA hS ⊢
  obtain ⟨hx, hb, hml, hown, hts⟩ := id SF
  have hown : s.vm.findClass RX2 = some m.cls := hown
  have SF : CallFix p m c cX2_emit 5 s _ lw_all RX2 := SF
  have hl : lv_has ls 5 [(0, .ref (a 0)), (1, .int o), (2, .int x), (3, .int y), (4, .int z)] := hl
  refine lv_iload_n hx hb dX2_emit_0 rfl (lv_at hl 1 rfl) ?_
  refine lv_if_lt (tgt := 19) hx hb dX2_emit_1 (by decide) (fun c1 => ?_) (fun c1 => ?_)
  · refine lv_iconst (v := (-1)) hx hb dX2_emit_19 (by decide) ?_
    exact W.iret (v := (-1)) hx hb hr (fun t9 h9 hW9 => ⟨⟨_, (L, op, fa, fb, fc), rfl, by show emR L op fa fb fc o x y z _ _; unfold emR; rw [if_pos (Or.inl c1)]; exact ⟨rfl, rfl⟩, by rw [h9]; exact hP, va_K.moved hW9.alike hK, hD⟩, hS.F h9⟩) hS.2.2 dX2_emit_20
  · refine lv_iload_n hx hb dX2_emit_4 rfl (lv_at hl 1 rfl) ?_
    refine lv_bipush (v := 11) hx hb dX2_emit_5 (by decide) ?_
    refine lv_icmp_gt (tgt := 19) hx hb dX2_emit_7 (by decide) (fun c2 => ?_) (fun c2 => ?_)
    · refine lv_iconst (v := (-1)) hx hb dX2_emit_19 (by decide) ?_
      exact W.iret (v := (-1)) hx hb hr (fun t9 h9 hW9 => ⟨⟨_, (L, op, fa, fb, fc), rfl, by show emR L op fa fb fc o x y z _ _; unfold emR; rw [if_pos (Or.inr (Or.inl c2))]; exact ⟨rfl, rfl⟩, by rw [h9]; exact hP, va_K.moved hW9.alike hK, hD⟩, hS.F h9⟩) hS.2.2 dX2_emit_20
    · refine lv_aload_n hx hb dX2_emit_10 rfl (lv_at hl 0 rfl) ?_
      refine va_get (D := (dC, dI)) (ci := 1) (v := .int (nI L)) (C := RX2) (T := TX2) (N := 12) hx hb hts in_X2 hown hK hP 0 rfl rfl 1 (by decide) (hts _ q184) (fun _ h9 => h9) rfl dX2_emit_11 ?_
      refine lv_bipush (v := 32) hx hb dX2_emit_14 (by decide) ?_
      refine lv_icmp_ne (tgt := 21) hx hb dX2_emit_16 (by decide) (fun c3 => ?_) (fun c3 => ?_)
      · have hl32 : L < 32 := Nat.lt_of_le_of_ne hL (fun q => c3 (show nI L = nI 32 by rw [q]))
        refine lv_aload_n hx hb dX2_emit_21 rfl (lv_at hl 0 rfl) ?_
        refine va_get (D := (dC, dI)) (ci := 1) (v := .ref (a 1)) (C := RX2) (T := TX2) (N := 12) hx hb hts in_X2 hown hK hP 0 rfl rfl 2 (by decide) (hts _ q185) (fun _ h9 => h9) rfl dX2_emit_22 ?_
        refine lv_aload_n hx hb dX2_emit_25 rfl (lv_at hl 0 rfl) ?_
        refine va_get (D := (dC, dI)) (ci := 1) (v := .int (nI L)) (C := RX2) (T := TX2) (N := 12) hx hb hts in_X2 hown hK hP 0 rfl rfl 1 (by decide) (hts _ q184) (fun _ h9 => h9) rfl dX2_emit_26 ?_
        refine lv_iload_n hx hb dX2_emit_29 rfl (lv_at hl 1 rfl) ?_
        refine n_iast hx hb hK hP hD hS 1 0 rfl rfl L rfl (by omega) (by decide) dX2_emit_30 (fun H locs hP hD hS => ?_)
        have hP : va_P (dC, dI) vwCl (w2 a cI (nI T) (nI L) (upd op L o) fa fb fc inp out rg lo so st) H := hP
        have hD : va_D A (w2 a cI (nI T) (nI L) (upd op L o) fa fb fc inp out rg lo so st) := hD
        refine lv_aload_n hx hb dX2_emit_31 rfl (lv_at hl 0 rfl) ?_
        refine va_get (D := (dC, dI)) (ci := 1) (v := .ref (a 2)) (C := RX2) (T := TX2) (N := 12) hx hb hts in_X2 hown hK hP 0 rfl rfl 3 (by decide) (hts _ q186) (fun _ h9 => h9) rfl dX2_emit_32 ?_
        refine lv_aload_n hx hb dX2_emit_35 rfl (lv_at hl 0 rfl) ?_
        refine va_get (D := (dC, dI)) (ci := 1) (v := .int (nI L)) (C := RX2) (T := TX2) (N := 12) hx hb hts in_X2 hown hK hP 0 rfl rfl 1 (by decide) (hts _ q184) (fun _ h9 => h9) rfl dX2_emit_36 ?_
        refine lv_iload_n hx hb dX2_emit_39 rfl (lv_at hl 2 rfl) ?_
        refine n_iast hx hb hK hP hD hS 2 0 rfl rfl L rfl (by omega) (by decide) dX2_emit_40 (fun H locs hP hD hS => ?_)
        have hP : va_P (dC, dI) vwCl (w2 a cI (nI T) (nI L) (upd op L o) (upd fa L x) fb fc inp out rg lo so st) H := hP
        have hD : va_D A (w2 a cI (nI T) (nI L) (upd op L o) (upd fa L x) fb fc inp out rg lo so st) := hD
        refine lv_aload_n hx hb dX2_emit_41 rfl (lv_at hl 0 rfl) ?_
        refine va_get (D := (dC, dI)) (ci := 1) (v := .ref (a 3)) (C := RX2) (T := TX2) (N := 12) hx hb hts in_X2 hown hK hP 0 rfl rfl 4 (by decide) (hts _ q187) (fun _ h9 => h9) rfl dX2_emit_42 ?_
        refine lv_aload_n hx hb dX2_emit_45 rfl (lv_at hl 0 rfl) ?_
        refine va_get (D := (dC, dI)) (ci := 1) (v := .int (nI L)) (C := RX2) (T := TX2) (N := 12) hx hb hts in_X2 hown hK hP 0 rfl rfl 1 (by decide) (hts _ q184) (fun _ h9 => h9) rfl dX2_emit_46 ?_
        refine lv_iload_n hx hb dX2_emit_49 rfl (lv_at hl 3 rfl) ?_
        refine n_iast hx hb hK hP hD hS 3 0 rfl rfl L rfl (by omega) (by decide) dX2_emit_50 (fun H locs hP hD hS => ?_)
        have hP : va_P (dC, dI) vwCl (w2 a cI (nI T) (nI L) (upd op L o) (upd fa L x) (upd fb L y) fc inp out rg lo so st) H := hP
        have hD : va_D A (w2 a cI (nI T) (nI L) (upd op L o) (upd fa L x) (upd fb L y) fc inp out rg lo so st) := hD
        refine lv_aload_n hx hb dX2_emit_51 rfl (lv_at hl 0 rfl) ?_
        refine va_get (D := (dC, dI)) (ci := 1) (v := .ref (a 4)) (C := RX2) (T := TX2) (N := 12) hx hb hts in_X2 hown hK hP 0 rfl rfl 5 (by decide) (hts _ q188) (fun _ h9 => h9) rfl dX2_emit_52 ?_
        refine lv_aload_n hx hb dX2_emit_55 rfl (lv_at hl 0 rfl) ?_
        refine va_get (D := (dC, dI)) (ci := 1) (v := .int (nI L)) (C := RX2) (T := TX2) (N := 12) hx hb hts in_X2 hown hK hP 0 rfl rfl 1 (by decide) (hts _ q184) (fun _ h9 => h9) rfl dX2_emit_56 ?_
        refine lv_iload hx hb dX2_emit_59 (lv_at hl 4 rfl) ?_
        refine n_iast hx hb hK hP hD hS 4 0 rfl rfl L rfl (by omega) (by decide) dX2_emit_61 (fun H locs hP hD hS => ?_)
        have hP : va_P (dC, dI) vwCl (w2 a cI (nI T) (nI L) (upd op L o) (upd fa L x) (upd fb L y) (upd fc L z) inp out rg lo so st) H := hP
        have hD : va_D A (w2 a cI (nI T) (nI L) (upd op L o) (upd fa L x) (upd fb L y) (upd fc L z) inp out rg lo so st) := hD
        refine lv_aload_n hx hb dX2_emit_62 rfl (lv_at hl 0 rfl) ?_
        refine lv_dup hx hb dX2_emit_63 rfl ?_
        refine va_get (D := (dC, dI)) (ci := 1) (v := .int (nI L)) (C := RX2) (T := TX2) (N := 12) hx hb hts in_X2 hown hK hP 0 rfl rfl 1 (by decide) (hts _ q184) (fun _ h9 => h9) rfl dX2_emit_64 ?_
        refine lv_iconst (v := 1) hx hb dX2_emit_67 (by decide) ?_
        refine lv_iadd hx hb dX2_emit_68 ?_
        refine n_topi (y := nI (L + 1)) (nI_1 L) ?_
        refine va_put (D := (dC, dI)) (ci := 1) (v := .int (nI (L + 1))) (ty := .int) (C := RX2) (T := TX2) (N := 12) hx hb hts in_X2 tyX2 tyX2_ok nmX2 hown hK hP hD hS 0 rfl rfl 1 (by decide) (hts _ q184) (fun _ h9 => h9) rfl (by decide +kernel) rfl rfl (Nat.le_of_ble_eq_true rfl) dX2_emit_69 (fun H locs hP hD hS => ?_)
        have hP : va_P (dC, dI) vwCl (w2 a cI (nI T) (nI (L + 1)) (upd op L o) (upd fa L x) (upd fb L y) (upd fc L z) inp out rg lo so st) H := hP
        have hD : va_D A (w2 a cI (nI T) (nI (L + 1)) (upd op L o) (upd fa L x) (upd fb L y) (upd fc L z) inp out rg lo so st) := hD
        refine lv_aload_n hx hb dX2_emit_72 rfl (lv_at hl 0 rfl) ?_
        refine va_get (D := (dC, dI)) (ci := 1) (v := .int (nI (L + 1))) (C := RX2) (T := TX2) (N := 12) hx hb hts in_X2 hown hK hP 0 rfl rfl 1 (by decide) (hts _ q184) (fun _ h9 => h9) rfl dX2_emit_73 ?_
        exact W.iret (v := nI (L + 1)) hx hb hr (fun t9 h9 hW9 => ⟨⟨_, (L + 1, upd op L o, upd fa L x, upd fb L y, upd fc L z), rfl, by show emR L op fa fb fc o x y z _ _; unfold emR; rw [if_neg (fun q => q.elim c1 (fun q => q.elim c2 (fun q => q hl32)))]; exact ⟨rfl, rfl⟩, by rw [h9]; exact hP, va_K.moved hW9.alike hK, hD⟩, hS.F h9⟩) hS.2.2 dX2_emit_76
      · refine lv_iconst (v := (-1)) hx hb dX2_emit_19 (by decide) ?_
        exact W.iret (v := (-1)) hx hb hr (fun t9 h9 hW9 => ⟨⟨_, (L, op, fa, fb, fc), rfl, by show emR L op fa fb fc o x y z _ _; unfold emR; rw [if_pos (Or.inr (Or.inr (fun q => Nat.ne_of_lt q ((nI_eq (by omega) (by decide)).mp (show nI L = nI 32 from c3)))))]; exact ⟨rfl, rfl⟩, by rw [h9]; exact hP, va_K.moved hW9.alike hK, hD⟩, hS.F h9⟩) hS.2.2 dX2_emit_20
set_option maxHeartbeats 4000000 in
set_option maxRecDepth 100000 in
theorem mX2_reg (l : Launch) (dC : Nat → ClassId) (dI : Nat → Nat → Nat) (a : Nat → Nat) (cI cJ : ClassId) (sz : Nat) (T L : Nat) (op fa fb fc inp out rg lo so st : Nat → Int32) (k i : Int32) (hT : T ≤ 8) : Met l yX2_reg (ws_ yX2_reg cX2_reg 3 (some .int)) ({ frames := 1, cells := 0, slots := 0, locals := 21 } : Room) (va_Pc [.ref (a 0), .int k, .int i] (prW dC dI (tyL cI cJ) sz (w2 a cI (nI T) (nI L) op fa fb fc inp out rg lo so st))) (va_Qi (fun (r : Int32) (_ : Unit) => r = (if ¬ k < 0 ∧ ¬ nI T ≤ k then rg (4 * k.toNatClampNeg + m4 i) else 0)) (fun _ => poW dC dI (tyL cI cJ) (va_A (w2 a cI (nI T) (nI L) op fa fb fc inp out rg lo so st) sz) (w2 a cI (nI T) (nI L) op fa fb fc inp out rg lo so st)) (va_A (w2 a cI (nI T) (nI L) op fa fb fc inp out rg lo so st) sz)) 0 0 (va_A (w2 a cI (nI T) (nI L) op fa fb fc inp out rg lo so st) sz) := by
  refine n_met (by decide) (Nat.le_of_ble_eq_true rfl) ?_
  intro p e s m below meth c ls SF hr hlocks hnm hsz hK hP hD hA hl
  subst hsz
  have hS : va_S (va_A (w2 a cI (nI T) (nI L) op fa fb fc inp out rg lo so st) s.heap.size) s.heap s.heap [] := va_S.rf
  generalize va_A (w2 a cI (nI T) (nI L) op fa fb fc inp out rg lo so st) s.heap.size = A at hD hA hS ⊢
  obtain ⟨hx, hb, hml, hown, hts⟩ := id SF
  have hown : s.vm.findClass RX2 = some m.cls := hown
  have SF : CallFix p m c cX2_reg 3 s _ lw_all RX2 := SF
  have hl : lv_has ls 3 [(0, .ref (a 0)), (1, .int k), (2, .int i)] := hl
  refine lv_aload_n hx hb dX2_reg_0 rfl (lv_at hl 0 rfl) ?_
  refine lv_iload_n hx hb dX2_reg_1 rfl (lv_at hl 1 rfl) ?_
  refine n_calli (As := [.int k]) (rest := []) SF (mX2_missing l dC dI a cI cJ _ T L op fa fb fc inp out rg lo so st k) (cwV 1 hts (lw_V q251 q253 qs14 q17 q254) rfl rfl rfl (by decide +kernel) ⟨Nat.le_of_ble_eq_true rfl, Nat.le_of_ble_eq_true rfl⟩) hK hP hD hS hA 0 1 rfl rfl rfl rfl hl.1 rfl (Nat.le_of_ble_eq_true rfl) dX2_reg_2 ⟨Nat.le_of_ble_eq_true rfl, Nat.le_of_ble_eq_true rfl⟩ (fun r u H locs er hP hD hS => ?_)
  refine lv_if_eq (tgt := 12) hx hb dX2_reg_5 (by decide) (fun c1 => ?_) (fun c1 => ?_)
  · have hy : ¬ k < 0 ∧ ¬ nI T ≤ k := Classical.byContradiction fun q => by rw [if_neg q] at er; rw [er] at c1; exact absurd c1 (by decide)
    obtain ⟨j, hj, rfl⟩ : ∃ j : Nat, j < T ∧ k = nI j := by rcases pk_ix k (n := T) (by omega) with q | q | q; exact absurd q hy.1; exact absurd q hy.2; exact q
    refine lv_aload_n hx hb dX2_reg_12 rfl (lv_at hl 0 rfl) ?_
    refine va_get (D := (dC, dI)) (ci := 1) (v := .ref (a 7)) (C := RX2) (T := TX2) (N := 12) hx hb hts in_X2 hown hK hP 0 rfl rfl 8 (by decide) (hts _ q191) (fun _ h9 => h9) rfl dX2_reg_13 ?_
    refine lv_iconst (v := 4) hx hb dX2_reg_16 (by decide) ?_
    refine lv_iload_n hx hb dX2_reg_17 rfl (lv_at hl 1 rfl) ?_
    refine lv_imul hx hb dX2_reg_18 ?_
    refine lv_iload_n hx hb dX2_reg_19 rfl (lv_at hl 2 rfl) ?_
    refine lv_iconst (v := 3) hx hb dX2_reg_20 (by decide) ?_
    refine lv_iand hx hb dX2_reg_21 ?_
    refine lv_iadd hx hb dX2_reg_22 ?_
    refine n_iald hx hb hK hP 7 0 rfl rfl (4 * j + m4 i) (i4 j i) (by have := m4_lt i; omega) (by decide) dX2_reg_23 ?_
    exact W.iret (v := rg (4 * j + m4 i)) hx hb hr (fun t9 h9 hW9 => ⟨⟨_, (), rfl, by show _ = ite _ _ _; rw [if_pos hy, nI_clamp (by omega)], by rw [h9]; exact hP, va_K.moved hW9.alike hK, hD⟩, hS.F h9⟩) hS.2.2 dX2_reg_24
  · have hn : ¬ (¬ k < 0 ∧ ¬ nI T ≤ k) := fun q => by rw [if_pos q] at er; exact c1 er
    refine lv_iconst (v := 0) hx hb dX2_reg_8 (by decide) ?_
    refine lv_goto (tgt := 24) hx hb dX2_reg_9 (by decide) ?_
    exact W.iret (v := 0) hx hb hr (fun t9 h9 hW9 => ⟨⟨_, (), rfl, (if_neg hn).symm, by rw [h9]; exact hP, va_K.moved hW9.alike hK, hD⟩, hS.F h9⟩) hS.2.2 dX2_reg_24
set_option maxHeartbeats 4000000 in
set_option maxRecDepth 100000 in
theorem mX2_line (l : Launch) (dC : Nat → ClassId) (dI : Nat → Nat → Nat) (a : Nat → Nat) (cI cJ : ClassId) (sz : Nat) (T L : Nat) (op fa fb fc inp out rg lo so st : Nat → Int32) (k : Int32) (hT : T ≤ 8) : Met l yX2_line (ws_ yX2_line cX2_line 2 (some .int)) ({ frames := 1, cells := 0, slots := 0, locals := 21 } : Room) (va_Pc [.ref (a 0), .int k] (prW dC dI (tyL cI cJ) sz (w2 a cI (nI T) (nI L) op fa fb fc inp out rg lo so st))) (va_Qi (fun (r : Int32) (_ : Unit) => r = (if ¬ k < 0 ∧ ¬ nI T ≤ k then lo k.toNatClampNeg else (-1))) (fun _ => poW dC dI (tyL cI cJ) (va_A (w2 a cI (nI T) (nI L) op fa fb fc inp out rg lo so st) sz) (w2 a cI (nI T) (nI L) op fa fb fc inp out rg lo so st)) (va_A (w2 a cI (nI T) (nI L) op fa fb fc inp out rg lo so st) sz)) 0 0 (va_A (w2 a cI (nI T) (nI L) op fa fb fc inp out rg lo so st) sz) := by
  refine n_met (by decide) (Nat.le_of_ble_eq_true rfl) ?_
  intro p e s m below meth c ls SF hr hlocks hnm hsz hK hP hD hA hl
  subst hsz
  have hS : va_S (va_A (w2 a cI (nI T) (nI L) op fa fb fc inp out rg lo so st) s.heap.size) s.heap s.heap [] := va_S.rf
  generalize va_A (w2 a cI (nI T) (nI L) op fa fb fc inp out rg lo so st) s.heap.size = A at hD hA hS ⊢
  obtain ⟨hx, hb, hml, hown, hts⟩ := id SF
  have hown : s.vm.findClass RX2 = some m.cls := hown
  have SF : CallFix p m c cX2_line 2 s _ lw_all RX2 := SF
  have hl : lv_has ls 2 [(0, .ref (a 0)), (1, .int k)] := hl
  refine lv_aload_n hx hb dX2_line_0 rfl (lv_at hl 0 rfl) ?_
  refine lv_iload_n hx hb dX2_line_1 rfl (lv_at hl 1 rfl) ?_
  refine n_calli (As := [.int k]) (rest := []) SF (mX2_missing l dC dI a cI cJ _ T L op fa fb fc inp out rg lo so st k) (cwV 1 hts (lw_V q251 q253 qs14 q17 q254) rfl rfl rfl (by decide +kernel) ⟨Nat.le_of_ble_eq_true rfl, Nat.le_of_ble_eq_true rfl⟩) hK hP hD hS hA 0 1 rfl rfl rfl rfl hl.1 rfl (Nat.le_of_ble_eq_true rfl) dX2_line_2 ⟨Nat.le_of_ble_eq_true rfl, Nat.le_of_ble_eq_true rfl⟩ (fun r u H locs er hP hD hS => ?_)
  refine lv_if_eq (tgt := 12) hx hb dX2_line_5 (by decide) (fun c1 => ?_) (fun c1 => ?_)
  · have hy : ¬ k < 0 ∧ ¬ nI T ≤ k := Classical.byContradiction fun q => by rw [if_neg q] at er; rw [er] at c1; exact absurd c1 (by decide)
    obtain ⟨j, hj, rfl⟩ : ∃ j : Nat, j < T ∧ k = nI j := by rcases pk_ix k (n := T) (by omega) with q | q | q; exact absurd q hy.1; exact absurd q hy.2; exact q
    refine lv_aload_n hx hb dX2_line_12 rfl (lv_at hl 0 rfl) ?_
    refine va_get (D := (dC, dI)) (ci := 1) (v := .ref (a 8)) (C := RX2) (T := TX2) (N := 12) hx hb hts in_X2 hown hK hP 0 rfl rfl 9 (by decide) (hts _ q192) (fun _ h9 => h9) rfl dX2_line_13 ?_
    refine lv_iload_n hx hb dX2_line_16 rfl (lv_at hl 1 rfl) ?_
    refine n_iald hx hb hK hP 8 0 rfl rfl j rfl (by omega) (by decide) dX2_line_17 ?_
    exact W.iret (v := lo j) hx hb hr (fun t9 h9 hW9 => ⟨⟨_, (), rfl, by show _ = ite _ _ _; rw [if_pos hy, nI_clamp (by omega)], by rw [h9]; exact hP, va_K.moved hW9.alike hK, hD⟩, hS.F h9⟩) hS.2.2 dX2_line_18
  · have hn : ¬ (¬ k < 0 ∧ ¬ nI T ≤ k) := fun q => by rw [if_pos q] at er; exact c1 er
    refine lv_iconst (v := (-1)) hx hb dX2_line_8 (by decide) ?_
    refine lv_goto (tgt := 18) hx hb dX2_line_9 (by decide) ?_
    exact W.iret (v := (-1)) hx hb hr (fun t9 h9 hW9 => ⟨⟨_, (), rfl, (if_neg hn).symm, by rw [h9]; exact hP, va_K.moved hW9.alike hK, hD⟩, hS.F h9⟩) hS.2.2 dX2_line_18
set_option maxHeartbeats 4000000 in
set_option maxRecDepth 100000 in
theorem mX2_steps (l : Launch) (dC : Nat → ClassId) (dI : Nat → Nat → Nat) (a : Nat → Nat) (cI cJ : ClassId) (sz : Nat) (T L : Nat) (op fa fb fc inp out rg lo so st : Nat → Int32) (k : Int32) (hT : T ≤ 8) : Met l yX2_steps (ws_ yX2_steps cX2_steps 2 (some .int)) ({ frames := 1, cells := 0, slots := 0, locals := 21 } : Room) (va_Pc [.ref (a 0), .int k] (prW dC dI (tyL cI cJ) sz (w2 a cI (nI T) (nI L) op fa fb fc inp out rg lo so st))) (va_Qi (fun (r : Int32) (_ : Unit) => r = (if ¬ k < 0 ∧ ¬ nI T ≤ k then so k.toNatClampNeg else (-1))) (fun _ => poW dC dI (tyL cI cJ) (va_A (w2 a cI (nI T) (nI L) op fa fb fc inp out rg lo so st) sz) (w2 a cI (nI T) (nI L) op fa fb fc inp out rg lo so st)) (va_A (w2 a cI (nI T) (nI L) op fa fb fc inp out rg lo so st) sz)) 0 0 (va_A (w2 a cI (nI T) (nI L) op fa fb fc inp out rg lo so st) sz) := by
  refine n_met (by decide) (Nat.le_of_ble_eq_true rfl) ?_
  intro p e s m below meth c ls SF hr hlocks hnm hsz hK hP hD hA hl
  subst hsz
  have hS : va_S (va_A (w2 a cI (nI T) (nI L) op fa fb fc inp out rg lo so st) s.heap.size) s.heap s.heap [] := va_S.rf
  generalize va_A (w2 a cI (nI T) (nI L) op fa fb fc inp out rg lo so st) s.heap.size = A at hD hA hS ⊢
  obtain ⟨hx, hb, hml, hown, hts⟩ := id SF
  have hown : s.vm.findClass RX2 = some m.cls := hown
  have SF : CallFix p m c cX2_steps 2 s _ lw_all RX2 := SF
  have hl : lv_has ls 2 [(0, .ref (a 0)), (1, .int k)] := hl
  refine lv_aload_n hx hb dX2_steps_0 rfl (lv_at hl 0 rfl) ?_
  refine lv_iload_n hx hb dX2_steps_1 rfl (lv_at hl 1 rfl) ?_
  refine n_calli (As := [.int k]) (rest := []) SF (mX2_missing l dC dI a cI cJ _ T L op fa fb fc inp out rg lo so st k) (cwV 1 hts (lw_V q251 q253 qs14 q17 q254) rfl rfl rfl (by decide +kernel) ⟨Nat.le_of_ble_eq_true rfl, Nat.le_of_ble_eq_true rfl⟩) hK hP hD hS hA 0 1 rfl rfl rfl rfl hl.1 rfl (Nat.le_of_ble_eq_true rfl) dX2_steps_2 ⟨Nat.le_of_ble_eq_true rfl, Nat.le_of_ble_eq_true rfl⟩ (fun r u H locs er hP hD hS => ?_)
  refine lv_if_eq (tgt := 12) hx hb dX2_steps_5 (by decide) (fun c1 => ?_) (fun c1 => ?_)
  · have hy : ¬ k < 0 ∧ ¬ nI T ≤ k := Classical.byContradiction fun q => by rw [if_neg q] at er; rw [er] at c1; exact absurd c1 (by decide)
    obtain ⟨j, hj, rfl⟩ : ∃ j : Nat, j < T ∧ k = nI j := by rcases pk_ix k (n := T) (by omega) with q | q | q; exact absurd q hy.1; exact absurd q hy.2; exact q
    refine lv_aload_n hx hb dX2_steps_12 rfl (lv_at hl 0 rfl) ?_
    refine va_get (D := (dC, dI)) (ci := 1) (v := .ref (a 9)) (C := RX2) (T := TX2) (N := 12) hx hb hts in_X2 hown hK hP 0 rfl rfl 10 (by decide) (hts _ q193) (fun _ h9 => h9) rfl dX2_steps_13 ?_
    refine lv_iload_n hx hb dX2_steps_16 rfl (lv_at hl 1 rfl) ?_
    refine n_iald hx hb hK hP 9 0 rfl rfl j rfl (by omega) (by decide) dX2_steps_17 ?_
    exact W.iret (v := so j) hx hb hr (fun t9 h9 hW9 => ⟨⟨_, (), rfl, by show _ = ite _ _ _; rw [if_pos hy, nI_clamp (by omega)], by rw [h9]; exact hP, va_K.moved hW9.alike hK, hD⟩, hS.F h9⟩) hS.2.2 dX2_steps_18
  · have hn : ¬ (¬ k < 0 ∧ ¬ nI T ≤ k) := fun q => by rw [if_pos q] at er; exact c1 er
    refine lv_iconst (v := (-1)) hx hb dX2_steps_8 (by decide) ?_
    refine lv_goto (tgt := 18) hx hb dX2_steps_9 (by decide) ?_
    exact W.iret (v := (-1)) hx hb hr (fun t9 h9 hW9 => ⟨⟨_, (), rfl, (if_neg hn).symm, by rw [h9]; exact hP, va_K.moved hW9.alike hK, hD⟩, hS.F h9⟩) hS.2.2 dX2_steps_18
set_option maxHeartbeats 4000000 in
set_option maxRecDepth 100000 in
theorem mX2_state (l : Launch) (dC : Nat → ClassId) (dI : Nat → Nat → Nat) (a : Nat → Nat) (cI cJ : ClassId) (sz : Nat) (T L : Nat) (op fa fb fc inp out rg lo so st : Nat → Int32) (k : Int32) (hT : T ≤ 8) : Met l yX2_state (ws_ yX2_state cX2_state 2 (some .int)) ({ frames := 1, cells := 0, slots := 0, locals := 21 } : Room) (va_Pc [.ref (a 0), .int k] (prW dC dI (tyL cI cJ) sz (w2 a cI (nI T) (nI L) op fa fb fc inp out rg lo so st))) (va_Qi (fun (r : Int32) (_ : Unit) => r = (if ¬ k < 0 ∧ ¬ nI T ≤ k then st k.toNatClampNeg else (-1))) (fun _ => poW dC dI (tyL cI cJ) (va_A (w2 a cI (nI T) (nI L) op fa fb fc inp out rg lo so st) sz) (w2 a cI (nI T) (nI L) op fa fb fc inp out rg lo so st)) (va_A (w2 a cI (nI T) (nI L) op fa fb fc inp out rg lo so st) sz)) 0 0 (va_A (w2 a cI (nI T) (nI L) op fa fb fc inp out rg lo so st) sz) := by
  refine n_met (by decide) (Nat.le_of_ble_eq_true rfl) ?_
  intro p e s m below meth c ls SF hr hlocks hnm hsz hK hP hD hA hl
  subst hsz
  have hS : va_S (va_A (w2 a cI (nI T) (nI L) op fa fb fc inp out rg lo so st) s.heap.size) s.heap s.heap [] := va_S.rf
  generalize va_A (w2 a cI (nI T) (nI L) op fa fb fc inp out rg lo so st) s.heap.size = A at hD hA hS ⊢
  obtain ⟨hx, hb, hml, hown, hts⟩ := id SF
  have hown : s.vm.findClass RX2 = some m.cls := hown
  have SF : CallFix p m c cX2_state 2 s _ lw_all RX2 := SF
  have hl : lv_has ls 2 [(0, .ref (a 0)), (1, .int k)] := hl
  refine lv_aload_n hx hb dX2_state_0 rfl (lv_at hl 0 rfl) ?_
  refine lv_iload_n hx hb dX2_state_1 rfl (lv_at hl 1 rfl) ?_
  refine n_calli (As := [.int k]) (rest := []) SF (mX2_missing l dC dI a cI cJ _ T L op fa fb fc inp out rg lo so st k) (cwV 1 hts (lw_V q251 q253 qs14 q17 q254) rfl rfl rfl (by decide +kernel) ⟨Nat.le_of_ble_eq_true rfl, Nat.le_of_ble_eq_true rfl⟩) hK hP hD hS hA 0 1 rfl rfl rfl rfl hl.1 rfl (Nat.le_of_ble_eq_true rfl) dX2_state_2 ⟨Nat.le_of_ble_eq_true rfl, Nat.le_of_ble_eq_true rfl⟩ (fun r u H locs er hP hD hS => ?_)
  refine lv_if_eq (tgt := 12) hx hb dX2_state_5 (by decide) (fun c1 => ?_) (fun c1 => ?_)
  · have hy : ¬ k < 0 ∧ ¬ nI T ≤ k := Classical.byContradiction fun q => by rw [if_neg q] at er; rw [er] at c1; exact absurd c1 (by decide)
    obtain ⟨j, hj, rfl⟩ : ∃ j : Nat, j < T ∧ k = nI j := by rcases pk_ix k (n := T) (by omega) with q | q | q; exact absurd q hy.1; exact absurd q hy.2; exact q
    refine lv_aload_n hx hb dX2_state_12 rfl (lv_at hl 0 rfl) ?_
    refine va_get (D := (dC, dI)) (ci := 1) (v := .ref (a 10)) (C := RX2) (T := TX2) (N := 12) hx hb hts in_X2 hown hK hP 0 rfl rfl 11 (by decide) (hts _ q194) (fun _ h9 => h9) rfl dX2_state_13 ?_
    refine lv_iload_n hx hb dX2_state_16 rfl (lv_at hl 1 rfl) ?_
    refine n_iald hx hb hK hP 10 0 rfl rfl j rfl (by omega) (by decide) dX2_state_17 ?_
    exact W.iret (v := st j) hx hb hr (fun t9 h9 hW9 => ⟨⟨_, (), rfl, by show _ = ite _ _ _; rw [if_pos hy, nI_clamp (by omega)], by rw [h9]; exact hP, va_K.moved hW9.alike hK, hD⟩, hS.F h9⟩) hS.2.2 dX2_state_18
  · have hn : ¬ (¬ k < 0 ∧ ¬ nI T ≤ k) := fun q => by rw [if_pos q] at er; exact c1 er
    refine lv_iconst (v := (-1)) hx hb dX2_state_8 (by decide) ?_
    refine lv_goto (tgt := 18) hx hb dX2_state_9 (by decide) ?_
    exact W.iret (v := (-1)) hx hb hr (fun t9 h9 hW9 => ⟨⟨_, (), rfl, (if_neg hn).symm, by rw [h9]; exact hP, va_K.moved hW9.alike hK, hD⟩, hS.F h9⟩) hS.2.2 dX2_state_18
set_option maxHeartbeats 4000000 in
set_option maxRecDepth 100000 in
theorem mX2_carryOut (l : Launch) (dC : Nat → ClassId) (dI : Nat → Nat → Nat) (a : Nat → Nat) (cI cJ : ClassId) (sz : Nat) (T L : Nat) (op fa fb fc inp out rg lo so st : Nat → Int32) (t l0 : Nat) (ht : t < 8) (hl0 : l0 < 32) (hlo : lo t = nI l0) (hop : 0 ≤ op l0) : Met l yX2_carryOut (ws_ yX2_carryOut cX2_carryOut 7 (some .int)) ({ frames := 1, cells := 0, slots := 0, locals := 22 } : Room) (va_Pc [.ref (a 0), .int (nI t)] (prW dC dI (tyL cI cJ) sz (w2 a cI (nI T) (nI L) op fa fb fc inp out rg lo so st))) (va_Qi (fun (r : Int32) (_ : Unit) => r = nI (nxt (op, fa, fb, fc, inp, L) (op l0) t l0 rg)) (fun _ => poW dC dI (tyL cI cJ) (va_A (w2 a cI (nI T) (nI L) op fa fb fc inp out rg lo so st) sz) (w2 a cI (nI T) (nI L) op fa fb fc inp (wkO (op, fa, fb, fc, inp, L) (op l0) t l0 rg out) (wkR (op, fa, fb, fc, inp, L) (op l0) t l0 rg) lo so st)) (va_A (w2 a cI (nI T) (nI L) op fa fb fc inp out rg lo so st) sz)) 0 0 (va_A (w2 a cI (nI T) (nI L) op fa fb fc inp out rg lo so st) sz) := by
  refine n_met (by decide) (Nat.le_of_ble_eq_true rfl) ?_
  intro p e s m below meth c ls SF hr hlocks hnm hsz hK hP hD hA hl
  subst hsz
  have hS : va_S (va_A (w2 a cI (nI T) (nI L) op fa fb fc inp out rg lo so st) s.heap.size) s.heap s.heap [] := va_S.rf
  generalize va_A (w2 a cI (nI T) (nI L) op fa fb fc inp out rg lo so st) s.heap.size = A at hD hA hS ⊢
  obtain ⟨hx, hb, hml, hown, hts⟩ := id SF
  have hown : s.vm.findClass RX2 = some m.cls := hown
  have SF : CallFix p m c cX2_carryOut 7 s _ lw_all RX2 := SF
  have hl : lv_has ls 7 [(0, .ref (a 0)), (1, .int (nI t))] := hl
  have h4a := m4_lt (fa l0)
  have h4b := m4_lt (fb l0)
  have h4c := m4_lt (fc l0)
  refine lv_aload_n hx hb dX2_carryOut_0 rfl (lv_at hl 0 rfl) ?_
  refine va_get (D := (dC, dI)) (ci := 1) (v := .ref (a 8)) (C := RX2) (T := TX2) (N := 12) hx hb hts in_X2 hown hK hP 0 rfl rfl 9 (by decide) (hts _ q192) (fun _ h9 => h9) rfl dX2_carryOut_1 ?_
  refine lv_iload_n hx hb dX2_carryOut_4 rfl (lv_at hl 1 rfl) ?_
  refine n_iald hx hb hK hP 8 0 rfl rfl t rfl (by omega) (by decide) dX2_carryOut_5 ?_
  refine n_topi (y := nI l0) hlo ?_
  refine lv_istore_n (lv' := [(2, .int (nI l0)), (0, .ref (a 0)), (1, .int (nI t))]) hx hb dX2_carryOut_6 rfl hl (by decide) rfl (fun ls hl => ?_)
  refine lv_aload_n hx hb dX2_carryOut_7 rfl (lv_at hl 1 rfl) ?_
  refine va_get (D := (dC, dI)) (ci := 1) (v := .ref (a 1)) (C := RX2) (T := TX2) (N := 12) hx hb hts in_X2 hown hK hP 0 rfl rfl 2 (by decide) (hts _ q185) (fun _ h9 => h9) rfl dX2_carryOut_8 ?_
  refine lv_iload_n hx hb dX2_carryOut_11 rfl (lv_at hl 0 rfl) ?_
  refine n_iald hx hb hK hP 1 0 rfl rfl l0 rfl (by omega) (by decide) dX2_carryOut_12 ?_
  refine lv_istore_n (lv' := [(3, .int (op l0)), (2, .int (nI l0)), (0, .ref (a 0)), (1, .int (nI t))]) hx hb dX2_carryOut_13 rfl hl (by decide) rfl (fun ls hl => ?_)
  refine lv_iconst (v := 4) hx hb dX2_carryOut_14 (by decide) ?_
  refine lv_iload_n hx hb dX2_carryOut_15 rfl (lv_at hl 3 rfl) ?_
  refine lv_imul hx hb dX2_carryOut_16 ?_
  refine lv_aload_n hx hb dX2_carryOut_17 rfl (lv_at hl 2 rfl) ?_
  refine va_get (D := (dC, dI)) (ci := 1) (v := .ref (a 2)) (C := RX2) (T := TX2) (N := 12) hx hb hts in_X2 hown hK hP 0 rfl rfl 3 (by decide) (hts _ q186) (fun _ h9 => h9) rfl dX2_carryOut_18 ?_
  refine lv_iload_n hx hb dX2_carryOut_21 rfl (lv_at hl 1 rfl) ?_
  refine n_iald hx hb hK hP 2 0 rfl rfl l0 rfl (by omega) (by decide) dX2_carryOut_22 ?_
  refine lv_iconst (v := 3) hx hb dX2_carryOut_23 (by decide) ?_
  refine lv_iand hx hb dX2_carryOut_24 ?_
  refine lv_iadd hx hb dX2_carryOut_25 ?_
  refine n_topi (y := nI (4 * t + m4 (fa l0))) (i4 t (fa l0)) ?_
  refine lv_istore (lv' := [(4, .int (nI (4 * t + m4 (fa l0)))), (3, .int (op l0)), (2, .int (nI l0)), (0, .ref (a 0)), (1, .int (nI t))]) hx hb dX2_carryOut_26 hl (by decide) rfl (fun ls hl => ?_)
  refine lv_aload_n hx hb dX2_carryOut_28 rfl (lv_at hl 3 rfl) ?_
  refine va_get (D := (dC, dI)) (ci := 1) (v := .ref (a 7)) (C := RX2) (T := TX2) (N := 12) hx hb hts in_X2 hown hK hP 0 rfl rfl 8 (by decide) (hts _ q191) (fun _ h9 => h9) rfl dX2_carryOut_29 ?_
  refine lv_iconst (v := 4) hx hb dX2_carryOut_32 (by decide) ?_
  refine lv_iload_n hx hb dX2_carryOut_33 rfl (lv_at hl 4 rfl) ?_
  refine lv_imul hx hb dX2_carryOut_34 ?_
  refine lv_aload_n hx hb dX2_carryOut_35 rfl (lv_at hl 3 rfl) ?_
  refine va_get (D := (dC, dI)) (ci := 1) (v := .ref (a 3)) (C := RX2) (T := TX2) (N := 12) hx hb hts in_X2 hown hK hP 0 rfl rfl 4 (by decide) (hts _ q187) (fun _ h9 => h9) rfl dX2_carryOut_36 ?_
  refine lv_iload_n hx hb dX2_carryOut_39 rfl (lv_at hl 2 rfl) ?_
  refine n_iald hx hb hK hP 3 0 rfl rfl l0 rfl (by omega) (by decide) dX2_carryOut_40 ?_
  refine lv_iconst (v := 3) hx hb dX2_carryOut_41 (by decide) ?_
  refine lv_iand hx hb dX2_carryOut_42 ?_
  refine lv_iadd hx hb dX2_carryOut_43 ?_
  refine n_iald hx hb hK hP 7 0 rfl rfl (4 * t + m4 (fb l0)) (i4 t (fb l0)) (by omega) (by decide) dX2_carryOut_44 ?_
  refine lv_istore (lv' := [(5, .int (rg (4 * t + m4 (fb l0)))), (4, .int (nI (4 * t + m4 (fa l0)))), (3, .int (op l0)), (2, .int (nI l0)), (0, .ref (a 0)), (1, .int (nI t))]) hx hb dX2_carryOut_45 hl (by decide) rfl (fun ls hl => ?_)
  refine lv_aload_n hx hb dX2_carryOut_47 rfl (lv_at hl 4 rfl) ?_
  refine va_get (D := (dC, dI)) (ci := 1) (v := .ref (a 7)) (C := RX2) (T := TX2) (N := 12) hx hb hts in_X2 hown hK hP 0 rfl rfl 8 (by decide) (hts _ q191) (fun _ h9 => h9) rfl dX2_carryOut_48 ?_
  refine lv_iconst (v := 4) hx hb dX2_carryOut_51 (by decide) ?_
  refine lv_iload_n hx hb dX2_carryOut_52 rfl (lv_at hl 5 rfl) ?_
  refine lv_imul hx hb dX2_carryOut_53 ?_
  refine lv_aload_n hx hb dX2_carryOut_54 rfl (lv_at hl 4 rfl) ?_
  refine va_get (D := (dC, dI)) (ci := 1) (v := .ref (a 4)) (C := RX2) (T := TX2) (N := 12) hx hb hts in_X2 hown hK hP 0 rfl rfl 5 (by decide) (hts _ q188) (fun _ h9 => h9) rfl dX2_carryOut_55 ?_
  refine lv_iload_n hx hb dX2_carryOut_58 rfl (lv_at hl 3 rfl) ?_
  refine n_iald hx hb hK hP 4 0 rfl rfl l0 rfl (by omega) (by decide) dX2_carryOut_59 ?_
  refine lv_iconst (v := 3) hx hb dX2_carryOut_60 (by decide) ?_
  refine lv_iand hx hb dX2_carryOut_61 ?_
  refine lv_iadd hx hb dX2_carryOut_62 ?_
  refine n_iald hx hb hK hP 7 0 rfl rfl (4 * t + m4 (fc l0)) (i4 t (fc l0)) (by omega) (by decide) dX2_carryOut_63 ?_
  refine lv_istore (lv' := [(6, .int (rg (4 * t + m4 (fc l0)))), (5, .int (rg (4 * t + m4 (fb l0)))), (4, .int (nI (4 * t + m4 (fa l0)))), (3, .int (op l0)), (2, .int (nI l0)), (0, .ref (a 0)), (1, .int (nI t))]) hx hb dX2_carryOut_64 hl (by decide) rfl (fun ls hl => ?_)
  refine lv_iload_n hx hb dX2_carryOut_66 rfl (lv_at hl 3 rfl) ?_
  refine lv_if_ne (tgt := 83) hx hb dX2_carryOut_67 (by decide) (fun c0 => ?_) (fun c0 => ?_)
  · refine lv_iload_n hx hb dX2_carryOut_83 rfl (lv_at hl 3 rfl) ?_
    refine lv_iconst (v := 1) hx hb dX2_carryOut_84 (by decide) ?_
    refine lv_icmp_lt (tgt := 108) hx hb dX2_carryOut_85 (by decide) (fun c1 => ?_) (fun c1 => ?_)
    · exact absurd (z_lt1 c1 hop) c0
    · refine lv_iload_n hx hb dX2_carryOut_88 rfl (lv_at hl 3 rfl) ?_
      refine lv_iconst (v := 5) hx hb dX2_carryOut_89 (by decide) ?_
      refine lv_icmp_gt (tgt := 108) hx hb dX2_carryOut_90 (by decide) (fun c5 => ?_) (fun c5 => ?_)
      · refine lv_iload_n hx hb dX2_carryOut_108 rfl (lv_at hl 3 rfl) ?_
        refine lv_bipush (v := 6) hx hb dX2_carryOut_109 (by decide) ?_
        refine lv_icmp_ne (tgt := 122) hx hb dX2_carryOut_111 (by decide) (fun c6 => ?_) (fun c6 => ?_)
        · refine lv_iload_n hx hb dX2_carryOut_122 rfl (lv_at hl 3 rfl) ?_
          refine lv_bipush (v := 7) hx hb dX2_carryOut_123 (by decide) ?_
          refine lv_icmp_ne (tgt := 145) hx hb dX2_carryOut_125 (by decide) (fun c7 => ?_) (fun c7 => ?_)
          · refine lv_iload_n hx hb dX2_carryOut_145 rfl (lv_at hl 3 rfl) ?_
            refine lv_bipush (v := 8) hx hb dX2_carryOut_146 (by decide) ?_
            refine lv_icmp_ne (tgt := 171) hx hb dX2_carryOut_148 (by decide) (fun c8 => ?_) (fun c8 => ?_)
            · refine lv_iload_n hx hb dX2_carryOut_171 rfl (lv_at hl 3 rfl) ?_
              refine lv_bipush (v := 9) hx hb dX2_carryOut_172 (by decide) ?_
              refine lv_icmp_eq (tgt := 193) hx hb dX2_carryOut_174 (by decide) (fun c9 => ?_) (fun c9 => ?_)
              · refine lv_aload_n hx hb dX2_carryOut_193 rfl (lv_at hl 5 rfl) ?_
                refine va_get (D := (dC, dI)) (ci := 1) (v := .ref (a 3)) (C := RX2) (T := TX2) (N := 12) hx hb hts in_X2 hown hK hP 0 rfl rfl 4 (by decide) (hts _ q187) (fun _ h9 => h9) rfl dX2_carryOut_194 ?_
                refine lv_iload_n hx hb dX2_carryOut_197 rfl (lv_at hl 4 rfl) ?_
                refine n_iald hx hb hK hP 3 0 rfl rfl l0 rfl (by omega) (by decide) dX2_carryOut_198 ?_
                refine lv_bipush (v := 31) hx hb dX2_carryOut_199 (by decide) ?_
                refine lv_iand hx hb dX2_carryOut_201 ?_
                refine n_topi (y := nI (m32 (fb l0))) (e32 _) ?_
                have hP : va_P (dC, dI) vwCl (w2 a cI (nI T) (nI L) op fa fb fc inp (wkO (op, fa, fb, fc, inp, L) (op l0) t l0 rg out) (wkR (op, fa, fb, fc, inp, L) (op l0) t l0 rg) lo so st) s.heap := by rw [show wkR (op, fa, fb, fc, inp, L) (op l0) t l0 rg = rg from wkR_e c0 (Int32.not_le.mpr c5) c6 c7, show wkO (op, fa, fb, fc, inp, L) (op l0) t l0 rg out = out from wkO_n c8]; exact hP
                have hD : va_D A (w2 a cI (nI T) (nI L) op fa fb fc inp (wkO (op, fa, fb, fc, inp, L) (op l0) t l0 rg out) (wkR (op, fa, fb, fc, inp, L) (op l0) t l0 rg) lo so st) := by rw [show wkR (op, fa, fb, fc, inp, L) (op l0) t l0 rg = rg from wkR_e c0 (Int32.not_le.mpr c5) c6 c7, show wkO (op, fa, fb, fc, inp, L) (op l0) t l0 rg out = out from wkO_n c8]; exact hD
                exact W.iret (v := nI (m32 (fb l0))) hx hb hr (fun t9 h9 hW9 => ⟨⟨_, (), rfl, congrArg nI (nxt_y (P := (op, fa, fb, fc, inp, L)) (t := t) (l := l0) (R := rg) (Or.inl c9)).symm, by rw [h9]; exact hP, va_K.moved hW9.alike hK, hD⟩, hS.F h9⟩) hS.2.2 dX2_carryOut_202
              · refine lv_iload_n hx hb dX2_carryOut_177 rfl (lv_at hl 3 rfl) ?_
                refine lv_bipush (v := 10) hx hb dX2_carryOut_178 (by decide) ?_
                refine lv_icmp_ne (tgt := 203) hx hb dX2_carryOut_180 (by decide) (fun c10 => ?_) (fun c10 => ?_)
                · refine lv_iload_n hx hb dX2_carryOut_203 rfl (lv_at hl 4 rfl) ?_
                  refine lv_iconst (v := 1) hx hb dX2_carryOut_204 (by decide) ?_
                  refine lv_iadd hx hb dX2_carryOut_205 ?_
                  refine n_topi (y := nI (l0 + 1)) (nI_1 l0) ?_
                  have hP : va_P (dC, dI) vwCl (w2 a cI (nI T) (nI L) op fa fb fc inp (wkO (op, fa, fb, fc, inp, L) (op l0) t l0 rg out) (wkR (op, fa, fb, fc, inp, L) (op l0) t l0 rg) lo so st) s.heap := by rw [show wkR (op, fa, fb, fc, inp, L) (op l0) t l0 rg = rg from wkR_e c0 (Int32.not_le.mpr c5) c6 c7, show wkO (op, fa, fb, fc, inp, L) (op l0) t l0 rg out = out from wkO_n c8]; exact hP
                  have hD : va_D A (w2 a cI (nI T) (nI L) op fa fb fc inp (wkO (op, fa, fb, fc, inp, L) (op l0) t l0 rg out) (wkR (op, fa, fb, fc, inp, L) (op l0) t l0 rg) lo so st) := by rw [show wkR (op, fa, fb, fc, inp, L) (op l0) t l0 rg = rg from wkR_e c0 (Int32.not_le.mpr c5) c6 c7, show wkO (op, fa, fb, fc, inp, L) (op l0) t l0 rg out = out from wkO_n c8]; exact hD
                  exact W.iret (v := nI (l0 + 1)) hx hb hr (fun t9 h9 hW9 => ⟨⟨_, (), rfl, congrArg nI (nxt_n (fun q => q.elim c9 (fun z => c10 z.1))).symm, by rw [h9]; exact hP, va_K.moved hW9.alike hK, hD⟩, hS.F h9⟩) hS.2.2 dX2_carryOut_206
                · refine lv_aload_n hx hb dX2_carryOut_183 rfl (lv_at hl 5 rfl) ?_
                  refine va_get (D := (dC, dI)) (ci := 1) (v := .ref (a 7)) (C := RX2) (T := TX2) (N := 12) hx hb hts in_X2 hown hK hP 0 rfl rfl 8 (by decide) (hts _ q191) (fun _ h9 => h9) rfl dX2_carryOut_184 ?_
                  refine lv_iload hx hb dX2_carryOut_187 (lv_at hl 2 rfl) ?_
                  refine n_iald hx hb hK hP 7 0 rfl rfl (4 * t + m4 (fa l0)) rfl (by omega) (by decide) dX2_carryOut_189 ?_
                  refine lv_if_ne (tgt := 203) hx hb dX2_carryOut_190 (by decide) (fun cr => ?_) (fun cr => ?_)
                  · refine lv_iload_n hx hb dX2_carryOut_203 rfl (lv_at hl 4 rfl) ?_
                    refine lv_iconst (v := 1) hx hb dX2_carryOut_204 (by decide) ?_
                    refine lv_iadd hx hb dX2_carryOut_205 ?_
                    refine n_topi (y := nI (l0 + 1)) (nI_1 l0) ?_
                    have hP : va_P (dC, dI) vwCl (w2 a cI (nI T) (nI L) op fa fb fc inp (wkO (op, fa, fb, fc, inp, L) (op l0) t l0 rg out) (wkR (op, fa, fb, fc, inp, L) (op l0) t l0 rg) lo so st) s.heap := by rw [show wkR (op, fa, fb, fc, inp, L) (op l0) t l0 rg = rg from wkR_e c0 (Int32.not_le.mpr c5) c6 c7, show wkO (op, fa, fb, fc, inp, L) (op l0) t l0 rg out = out from wkO_n c8]; exact hP
                    have hD : va_D A (w2 a cI (nI T) (nI L) op fa fb fc inp (wkO (op, fa, fb, fc, inp, L) (op l0) t l0 rg out) (wkR (op, fa, fb, fc, inp, L) (op l0) t l0 rg) lo so st) := by rw [show wkR (op, fa, fb, fc, inp, L) (op l0) t l0 rg = rg from wkR_e c0 (Int32.not_le.mpr c5) c6 c7, show wkO (op, fa, fb, fc, inp, L) (op l0) t l0 rg out = out from wkO_n c8]; exact hD
                    exact W.iret (v := nI (l0 + 1)) hx hb hr (fun t9 h9 hW9 => ⟨⟨_, (), rfl, congrArg nI (nxt_n (fun q => q.elim c9 (fun z => cr z.2))).symm, by rw [h9]; exact hP, va_K.moved hW9.alike hK, hD⟩, hS.F h9⟩) hS.2.2 dX2_carryOut_206
                  · refine lv_aload_n hx hb dX2_carryOut_193 rfl (lv_at hl 5 rfl) ?_
                    refine va_get (D := (dC, dI)) (ci := 1) (v := .ref (a 3)) (C := RX2) (T := TX2) (N := 12) hx hb hts in_X2 hown hK hP 0 rfl rfl 4 (by decide) (hts _ q187) (fun _ h9 => h9) rfl dX2_carryOut_194 ?_
                    refine lv_iload_n hx hb dX2_carryOut_197 rfl (lv_at hl 4 rfl) ?_
                    refine n_iald hx hb hK hP 3 0 rfl rfl l0 rfl (by omega) (by decide) dX2_carryOut_198 ?_
                    refine lv_bipush (v := 31) hx hb dX2_carryOut_199 (by decide) ?_
                    refine lv_iand hx hb dX2_carryOut_201 ?_
                    refine n_topi (y := nI (m32 (fb l0))) (e32 _) ?_
                    have hP : va_P (dC, dI) vwCl (w2 a cI (nI T) (nI L) op fa fb fc inp (wkO (op, fa, fb, fc, inp, L) (op l0) t l0 rg out) (wkR (op, fa, fb, fc, inp, L) (op l0) t l0 rg) lo so st) s.heap := by rw [show wkR (op, fa, fb, fc, inp, L) (op l0) t l0 rg = rg from wkR_e c0 (Int32.not_le.mpr c5) c6 c7, show wkO (op, fa, fb, fc, inp, L) (op l0) t l0 rg out = out from wkO_n c8]; exact hP
                    have hD : va_D A (w2 a cI (nI T) (nI L) op fa fb fc inp (wkO (op, fa, fb, fc, inp, L) (op l0) t l0 rg out) (wkR (op, fa, fb, fc, inp, L) (op l0) t l0 rg) lo so st) := by rw [show wkR (op, fa, fb, fc, inp, L) (op l0) t l0 rg = rg from wkR_e c0 (Int32.not_le.mpr c5) c6 c7, show wkO (op, fa, fb, fc, inp, L) (op l0) t l0 rg out = out from wkO_n c8]; exact hD
                    exact W.iret (v := nI (m32 (fb l0))) hx hb hr (fun t9 h9 hW9 => ⟨⟨_, (), rfl, congrArg nI (nxt_y (P := (op, fa, fb, fc, inp, L)) (t := t) (l := l0) (R := rg) (Or.inr ⟨c10, cr⟩)).symm, by rw [h9]; exact hP, va_K.moved hW9.alike hK, hD⟩, hS.F h9⟩) hS.2.2 dX2_carryOut_202
            · refine lv_aload_n hx hb dX2_carryOut_151 rfl (lv_at hl 5 rfl) ?_
              refine va_get (D := (dC, dI)) (ci := 1) (v := .ref (a 6)) (C := RX2) (T := TX2) (N := 12) hx hb hts in_X2 hown hK hP 0 rfl rfl 7 (by decide) (hts _ q190) (fun _ h9 => h9) rfl dX2_carryOut_152 ?_
              refine lv_aload_n hx hb dX2_carryOut_155 rfl (lv_at hl 5 rfl) ?_
              refine va_get (D := (dC, dI)) (ci := 1) (v := .ref (a 7)) (C := RX2) (T := TX2) (N := 12) hx hb hts in_X2 hown hK hP 0 rfl rfl 8 (by decide) (hts _ q191) (fun _ h9 => h9) rfl dX2_carryOut_156 ?_
              refine lv_iload hx hb dX2_carryOut_159 (lv_at hl 2 rfl) ?_
              refine n_iald hx hb hK hP 7 0 rfl rfl (4 * t + m4 (fa l0)) rfl (by omega) (by decide) dX2_carryOut_161 ?_
              refine lv_bipush (v := 15) hx hb dX2_carryOut_162 (by decide) ?_
              refine lv_iand hx hb dX2_carryOut_164 ?_
              refine lv_dup2_11 hx hb dX2_carryOut_165 rfl rfl ?_
              refine n_iald hx hb hK hP 6 0 rfl rfl (m16 (rg (4 * t + m4 (fa l0)))) (e16 _) (m16_lt _) (by decide) dX2_carryOut_166 ?_
              refine lv_iload hx hb dX2_carryOut_167 (lv_at hl 1 rfl) ?_
              refine lv_iadd hx hb dX2_carryOut_169 ?_
              refine n_iast hx hb hK hP hD hS 6 0 rfl rfl (m16 (rg (4 * t + m4 (fa l0)))) (e16 _) (m16_lt _) (by decide) dX2_carryOut_170 (fun H locs hP hD hS => ?_)
              have hP : va_P (dC, dI) vwCl (w2 a cI (nI T) (nI L) op fa fb fc inp (upd out (m16 (rg (4 * t + m4 (fa l0)))) ((out (m16 (rg (4 * t + m4 (fa l0))))) + (rg (4 * t + m4 (fb l0))))) rg lo so st) H := hP
              have hD : va_D A (w2 a cI (nI T) (nI L) op fa fb fc inp (upd out (m16 (rg (4 * t + m4 (fa l0)))) ((out (m16 (rg (4 * t + m4 (fa l0))))) + (rg (4 * t + m4 (fb l0))))) rg lo so st) := hD
              refine lv_iload_n hx hb dX2_carryOut_171 rfl (lv_at hl 3 rfl) ?_
              refine lv_bipush (v := 9) hx hb dX2_carryOut_172 (by decide) ?_
              refine lv_icmp_eq (tgt := 193) hx hb dX2_carryOut_174 (by decide) (fun d174 => ?_) (fun d174 => ?_)
              · exact absurd d174 (by rw [c8]; decide)
              · refine lv_iload_n hx hb dX2_carryOut_177 rfl (lv_at hl 3 rfl) ?_
                refine lv_bipush (v := 10) hx hb dX2_carryOut_178 (by decide) ?_
                refine lv_icmp_ne (tgt := 203) hx hb dX2_carryOut_180 (by decide) (fun d180 => ?_) (fun d180 => ?_)
                · refine lv_iload_n hx hb dX2_carryOut_203 rfl (lv_at hl 4 rfl) ?_
                  refine lv_iconst (v := 1) hx hb dX2_carryOut_204 (by decide) ?_
                  refine lv_iadd hx hb dX2_carryOut_205 ?_
                  refine n_topi (y := nI (l0 + 1)) (nI_1 l0) ?_
                  have hP : va_P (dC, dI) vwCl (w2 a cI (nI T) (nI L) op fa fb fc inp (wkO (op, fa, fb, fc, inp, L) (op l0) t l0 rg out) (wkR (op, fa, fb, fc, inp, L) (op l0) t l0 rg) lo so st) H := by rw [show wkR (op, fa, fb, fc, inp, L) (op l0) t l0 rg = rg from wkR_e c0 (Int32.not_le.mpr c5) c6 c7, show wkO (op, fa, fb, fc, inp, L) (op l0) t l0 rg out = upd out (m16 (rg (4 * t + m4 (fa l0)))) ((out (m16 (rg (4 * t + m4 (fa l0))))) + (rg (4 * t + m4 (fb l0)))) from wkO_y c8]; exact hP
                  have hD : va_D A (w2 a cI (nI T) (nI L) op fa fb fc inp (wkO (op, fa, fb, fc, inp, L) (op l0) t l0 rg out) (wkR (op, fa, fb, fc, inp, L) (op l0) t l0 rg) lo so st) := by rw [show wkR (op, fa, fb, fc, inp, L) (op l0) t l0 rg = rg from wkR_e c0 (Int32.not_le.mpr c5) c6 c7, show wkO (op, fa, fb, fc, inp, L) (op l0) t l0 rg out = upd out (m16 (rg (4 * t + m4 (fa l0)))) ((out (m16 (rg (4 * t + m4 (fa l0))))) + (rg (4 * t + m4 (fb l0)))) from wkO_y c8]; exact hD
                  exact W.iret (v := nI (l0 + 1)) hx hb hr (fun t9 h9 hW9 => ⟨⟨_, (), rfl, congrArg nI (nxt_n (fun q => by rw [c8] at q; exact absurd q (by intro z; rcases z with z | z; exact absurd z (by decide); exact absurd z.1 (by decide)))).symm, by rw [h9]; exact hP, va_K.moved hW9.alike hK, hD⟩, hS.F h9⟩) hS.2.2 dX2_carryOut_206
                · exact absurd d180 (by rw [c8]; decide)
          · refine lv_aload_n hx hb dX2_carryOut_128 rfl (lv_at hl 5 rfl) ?_
            refine va_get (D := (dC, dI)) (ci := 1) (v := .ref (a 7)) (C := RX2) (T := TX2) (N := 12) hx hb hts in_X2 hown hK hP 0 rfl rfl 8 (by decide) (hts _ q191) (fun _ h9 => h9) rfl dX2_carryOut_129 ?_
            refine lv_iload hx hb dX2_carryOut_132 (lv_at hl 2 rfl) ?_
            refine lv_aload_n hx hb dX2_carryOut_134 rfl (lv_at hl 5 rfl) ?_
            refine va_get (D := (dC, dI)) (ci := 1) (v := .ref (a 5)) (C := RX2) (T := TX2) (N := 12) hx hb hts in_X2 hown hK hP 0 rfl rfl 6 (by decide) (hts _ q189) (fun _ h9 => h9) rfl dX2_carryOut_135 ?_
            refine lv_iload hx hb dX2_carryOut_138 (lv_at hl 1 rfl) ?_
            refine lv_bipush (v := 15) hx hb dX2_carryOut_140 (by decide) ?_
            refine lv_iand hx hb dX2_carryOut_142 ?_
            refine n_iald hx hb hK hP 5 0 rfl rfl (m16 (rg (4 * t + m4 (fb l0)))) (e16 _) (m16_lt _) (by decide) dX2_carryOut_143 ?_
            refine n_iast hx hb hK hP hD hS 7 0 rfl rfl (4 * t + m4 (fa l0)) rfl (by omega) (by decide) dX2_carryOut_144 (fun H locs hP hD hS => ?_)
            have hP : va_P (dC, dI) vwCl (w2 a cI (nI T) (nI L) op fa fb fc inp out (upd rg (4 * t + m4 (fa l0)) (inp (m16 (rg (4 * t + m4 (fb l0)))))) lo so st) H := hP
            have hD : va_D A (w2 a cI (nI T) (nI L) op fa fb fc inp out (upd rg (4 * t + m4 (fa l0)) (inp (m16 (rg (4 * t + m4 (fb l0)))))) lo so st) := hD
            refine lv_iload_n hx hb dX2_carryOut_145 rfl (lv_at hl 3 rfl) ?_
            refine lv_bipush (v := 8) hx hb dX2_carryOut_146 (by decide) ?_
            refine lv_icmp_ne (tgt := 171) hx hb dX2_carryOut_148 (by decide) (fun d148 => ?_) (fun d148 => ?_)
            · refine lv_iload_n hx hb dX2_carryOut_171 rfl (lv_at hl 3 rfl) ?_
              refine lv_bipush (v := 9) hx hb dX2_carryOut_172 (by decide) ?_
              refine lv_icmp_eq (tgt := 193) hx hb dX2_carryOut_174 (by decide) (fun d174 => ?_) (fun d174 => ?_)
              · exact absurd d174 (by rw [c7]; decide)
              · refine lv_iload_n hx hb dX2_carryOut_177 rfl (lv_at hl 3 rfl) ?_
                refine lv_bipush (v := 10) hx hb dX2_carryOut_178 (by decide) ?_
                refine lv_icmp_ne (tgt := 203) hx hb dX2_carryOut_180 (by decide) (fun d180 => ?_) (fun d180 => ?_)
                · refine lv_iload_n hx hb dX2_carryOut_203 rfl (lv_at hl 4 rfl) ?_
                  refine lv_iconst (v := 1) hx hb dX2_carryOut_204 (by decide) ?_
                  refine lv_iadd hx hb dX2_carryOut_205 ?_
                  refine n_topi (y := nI (l0 + 1)) (nI_1 l0) ?_
                  have hP : va_P (dC, dI) vwCl (w2 a cI (nI T) (nI L) op fa fb fc inp (wkO (op, fa, fb, fc, inp, L) (op l0) t l0 rg out) (wkR (op, fa, fb, fc, inp, L) (op l0) t l0 rg) lo so st) H := by rw [show wkR (op, fa, fb, fc, inp, L) (op l0) t l0 rg = upd rg (4 * t + m4 (fa l0)) (inp (m16 (rg (4 * t + m4 (fb l0))))) from wkR_d c7, show wkO (op, fa, fb, fc, inp, L) (op l0) t l0 rg out = out from wkO_n (by rw [c7]; decide)]; exact hP
                  have hD : va_D A (w2 a cI (nI T) (nI L) op fa fb fc inp (wkO (op, fa, fb, fc, inp, L) (op l0) t l0 rg out) (wkR (op, fa, fb, fc, inp, L) (op l0) t l0 rg) lo so st) := by rw [show wkR (op, fa, fb, fc, inp, L) (op l0) t l0 rg = upd rg (4 * t + m4 (fa l0)) (inp (m16 (rg (4 * t + m4 (fb l0))))) from wkR_d c7, show wkO (op, fa, fb, fc, inp, L) (op l0) t l0 rg out = out from wkO_n (by rw [c7]; decide)]; exact hD
                  exact W.iret (v := nI (l0 + 1)) hx hb hr (fun t9 h9 hW9 => ⟨⟨_, (), rfl, congrArg nI (nxt_n (fun q => by rw [c7] at q; exact absurd q (by intro z; rcases z with z | z; exact absurd z (by decide); exact absurd z.1 (by decide)))).symm, by rw [h9]; exact hP, va_K.moved hW9.alike hK, hD⟩, hS.F h9⟩) hS.2.2 dX2_carryOut_206
                · exact absurd d180 (by rw [c7]; decide)
            · exact absurd d148 (by rw [c7]; decide)
        · refine lv_aload_n hx hb dX2_carryOut_114 rfl (lv_at hl 5 rfl) ?_
          refine va_get (D := (dC, dI)) (ci := 1) (v := .ref (a 7)) (C := RX2) (T := TX2) (N := 12) hx hb hts in_X2 hown hK hP 0 rfl rfl 8 (by decide) (hts _ q191) (fun _ h9 => h9) rfl dX2_carryOut_115 ?_
          refine lv_iload hx hb dX2_carryOut_118 (lv_at hl 2 rfl) ?_
          refine lv_iload_n hx hb dX2_carryOut_120 rfl (lv_at hl 6 rfl) ?_
          refine n_iast hx hb hK hP hD hS 7 0 rfl rfl (4 * t + m4 (fa l0)) rfl (by omega) (by decide) dX2_carryOut_121 (fun H locs hP hD hS => ?_)
          have hP : va_P (dC, dI) vwCl (w2 a cI (nI T) (nI L) op fa fb fc inp out (upd rg (4 * t + m4 (fa l0)) (nI t)) lo so st) H := hP
          have hD : va_D A (w2 a cI (nI T) (nI L) op fa fb fc inp out (upd rg (4 * t + m4 (fa l0)) (nI t)) lo so st) := hD
          refine lv_iload_n hx hb dX2_carryOut_122 rfl (lv_at hl 3 rfl) ?_
          refine lv_bipush (v := 7) hx hb dX2_carryOut_123 (by decide) ?_
          refine lv_icmp_ne (tgt := 145) hx hb dX2_carryOut_125 (by decide) (fun d125 => ?_) (fun d125 => ?_)
          · refine lv_iload_n hx hb dX2_carryOut_145 rfl (lv_at hl 3 rfl) ?_
            refine lv_bipush (v := 8) hx hb dX2_carryOut_146 (by decide) ?_
            refine lv_icmp_ne (tgt := 171) hx hb dX2_carryOut_148 (by decide) (fun d148 => ?_) (fun d148 => ?_)
            · refine lv_iload_n hx hb dX2_carryOut_171 rfl (lv_at hl 3 rfl) ?_
              refine lv_bipush (v := 9) hx hb dX2_carryOut_172 (by decide) ?_
              refine lv_icmp_eq (tgt := 193) hx hb dX2_carryOut_174 (by decide) (fun d174 => ?_) (fun d174 => ?_)
              · exact absurd d174 (by rw [c6]; decide)
              · refine lv_iload_n hx hb dX2_carryOut_177 rfl (lv_at hl 3 rfl) ?_
                refine lv_bipush (v := 10) hx hb dX2_carryOut_178 (by decide) ?_
                refine lv_icmp_ne (tgt := 203) hx hb dX2_carryOut_180 (by decide) (fun d180 => ?_) (fun d180 => ?_)
                · refine lv_iload_n hx hb dX2_carryOut_203 rfl (lv_at hl 4 rfl) ?_
                  refine lv_iconst (v := 1) hx hb dX2_carryOut_204 (by decide) ?_
                  refine lv_iadd hx hb dX2_carryOut_205 ?_
                  refine n_topi (y := nI (l0 + 1)) (nI_1 l0) ?_
                  have hP : va_P (dC, dI) vwCl (w2 a cI (nI T) (nI L) op fa fb fc inp (wkO (op, fa, fb, fc, inp, L) (op l0) t l0 rg out) (wkR (op, fa, fb, fc, inp, L) (op l0) t l0 rg) lo so st) H := by rw [show wkR (op, fa, fb, fc, inp, L) (op l0) t l0 rg = upd rg (4 * t + m4 (fa l0)) (nI t) from wkR_c c6, show wkO (op, fa, fb, fc, inp, L) (op l0) t l0 rg out = out from wkO_n (by rw [c6]; decide)]; exact hP
                  have hD : va_D A (w2 a cI (nI T) (nI L) op fa fb fc inp (wkO (op, fa, fb, fc, inp, L) (op l0) t l0 rg out) (wkR (op, fa, fb, fc, inp, L) (op l0) t l0 rg) lo so st) := by rw [show wkR (op, fa, fb, fc, inp, L) (op l0) t l0 rg = upd rg (4 * t + m4 (fa l0)) (nI t) from wkR_c c6, show wkO (op, fa, fb, fc, inp, L) (op l0) t l0 rg out = out from wkO_n (by rw [c6]; decide)]; exact hD
                  exact W.iret (v := nI (l0 + 1)) hx hb hr (fun t9 h9 hW9 => ⟨⟨_, (), rfl, congrArg nI (nxt_n (fun q => by rw [c6] at q; exact absurd q (by intro z; rcases z with z | z; exact absurd z (by decide); exact absurd z.1 (by decide)))).symm, by rw [h9]; exact hP, va_K.moved hW9.alike hK, hD⟩, hS.F h9⟩) hS.2.2 dX2_carryOut_206
                · exact absurd d180 (by rw [c6]; decide)
            · exact absurd d148 (by rw [c6]; decide)
          · exact absurd d125 (by rw [c6]; decide)
      · refine lv_aload_n hx hb dX2_carryOut_93 rfl (lv_at hl 5 rfl) ?_
        refine va_get (D := (dC, dI)) (ci := 1) (v := .ref (a 7)) (C := RX2) (T := TX2) (N := 12) hx hb hts in_X2 hown hK hP 0 rfl rfl 8 (by decide) (hts _ q191) (fun _ h9 => h9) rfl dX2_carryOut_94 ?_
        refine lv_iload hx hb dX2_carryOut_97 (lv_at hl 2 rfl) ?_
        refine lv_iload_n hx hb dX2_carryOut_99 rfl (lv_at hl 3 rfl) ?_
        refine lv_iload hx hb dX2_carryOut_100 (lv_at hl 1 rfl) ?_
        refine lv_iload hx hb dX2_carryOut_102 (lv_at hl 0 rfl) ?_
        refine n_calls (As := [.int (op l0), .int (rg (4 * t + m4 (fb l0))), .int (rg (4 * t + m4 (fc l0)))]) (rest := [.int (nI (4 * t + m4 (fa l0))), .ref (a 7)]) SF (mX2_worked l (op l0) (rg (4 * t + m4 (fb l0))) (rg (4 * t + m4 (fc l0)))) (va_cwS 3 hts (lw_S q244 q245 q17 q246) rfl rfl rfl (by decide +kernel) ⟨Nat.le_of_ble_eq_true rfl, Nat.le_of_ble_eq_true rfl⟩) hP hS rfl hl.1 rfl (Nat.le_of_ble_eq_true rfl) dX2_carryOut_104 ⟨Nat.le_of_ble_eq_true rfl, Nat.le_of_ble_eq_true rfl⟩ (fun r H locs er hP hS => ?_)
        refine n_iast hx hb hK hP hD hS 7 0 rfl rfl (4 * t + m4 (fa l0)) rfl (by omega) (by decide) dX2_carryOut_107 (fun H locs hP hD hS => ?_)
        have hP : va_P (dC, dI) vwCl (w2 a cI (nI T) (nI L) op fa fb fc inp out (upd rg (4 * t + m4 (fa l0)) r) lo so st) H := hP
        have hD : va_D A (w2 a cI (nI T) (nI L) op fa fb fc inp out (upd rg (4 * t + m4 (fa l0)) r) lo so st) := hD
        refine lv_iload_n hx hb dX2_carryOut_108 rfl (lv_at hl 3 rfl) ?_
        refine lv_bipush (v := 6) hx hb dX2_carryOut_109 (by decide) ?_
        refine lv_icmp_ne (tgt := 122) hx hb dX2_carryOut_111 (by decide) (fun d111 => ?_) (fun d111 => ?_)
        · refine lv_iload_n hx hb dX2_carryOut_122 rfl (lv_at hl 3 rfl) ?_
          refine lv_bipush (v := 7) hx hb dX2_carryOut_123 (by decide) ?_
          refine lv_icmp_ne (tgt := 145) hx hb dX2_carryOut_125 (by decide) (fun d125 => ?_) (fun d125 => ?_)
          · refine lv_iload_n hx hb dX2_carryOut_145 rfl (lv_at hl 3 rfl) ?_
            refine lv_bipush (v := 8) hx hb dX2_carryOut_146 (by decide) ?_
            refine lv_icmp_ne (tgt := 171) hx hb dX2_carryOut_148 (by decide) (fun d148 => ?_) (fun d148 => ?_)
            · refine lv_iload_n hx hb dX2_carryOut_171 rfl (lv_at hl 3 rfl) ?_
              refine lv_bipush (v := 9) hx hb dX2_carryOut_172 (by decide) ?_
              refine lv_icmp_eq (tgt := 193) hx hb dX2_carryOut_174 (by decide) (fun d174 => ?_) (fun d174 => ?_)
              · exact absurd (by rw [d174]; decide) c5
              · refine lv_iload_n hx hb dX2_carryOut_177 rfl (lv_at hl 3 rfl) ?_
                refine lv_bipush (v := 10) hx hb dX2_carryOut_178 (by decide) ?_
                refine lv_icmp_ne (tgt := 203) hx hb dX2_carryOut_180 (by decide) (fun d180 => ?_) (fun d180 => ?_)
                · refine lv_iload_n hx hb dX2_carryOut_203 rfl (lv_at hl 4 rfl) ?_
                  refine lv_iconst (v := 1) hx hb dX2_carryOut_204 (by decide) ?_
                  refine lv_iadd hx hb dX2_carryOut_205 ?_
                  refine n_topi (y := nI (l0 + 1)) (nI_1 l0) ?_
                  have hP : va_P (dC, dI) vwCl (w2 a cI (nI T) (nI L) op fa fb fc inp (wkO (op, fa, fb, fc, inp, L) (op l0) t l0 rg out) (wkR (op, fa, fb, fc, inp, L) (op l0) t l0 rg) lo so st) H := by rw [show wkR (op, fa, fb, fc, inp, L) (op l0) t l0 rg = upd rg (4 * t + m4 (fa l0)) r from (wkR_b c0 (Int32.not_lt.mp c5)).trans (by rw [er]), show wkO (op, fa, fb, fc, inp, L) (op l0) t l0 rg out = out from wkO_n (fun q => by rw [q] at c5; exact absurd (by decide) c5)]; exact hP
                  have hD : va_D A (w2 a cI (nI T) (nI L) op fa fb fc inp (wkO (op, fa, fb, fc, inp, L) (op l0) t l0 rg out) (wkR (op, fa, fb, fc, inp, L) (op l0) t l0 rg) lo so st) := by rw [show wkR (op, fa, fb, fc, inp, L) (op l0) t l0 rg = upd rg (4 * t + m4 (fa l0)) r from (wkR_b c0 (Int32.not_lt.mp c5)).trans (by rw [er]), show wkO (op, fa, fb, fc, inp, L) (op l0) t l0 rg out = out from wkO_n (fun q => by rw [q] at c5; exact absurd (by decide) c5)]; exact hD
                  exact W.iret (v := nI (l0 + 1)) hx hb hr (fun t9 h9 hW9 => ⟨⟨_, (), rfl, congrArg nI (nxt_n (fun q => by rcases q with q | q; (rw [q] at c5; exact absurd (by decide) c5); (rw [q.1] at c5; exact absurd (by decide) c5))).symm, by rw [h9]; exact hP, va_K.moved hW9.alike hK, hD⟩, hS.F h9⟩) hS.2.2 dX2_carryOut_206
                · exact absurd (by rw [d180]; decide) c5
            · exact absurd (by rw [d148]; decide) c5
          · exact absurd (by rw [d125]; decide) c5
        · exact absurd (by rw [d111]; decide) c5
  · refine lv_aload_n hx hb dX2_carryOut_70 rfl (lv_at hl 5 rfl) ?_
    refine va_get (D := (dC, dI)) (ci := 1) (v := .ref (a 7)) (C := RX2) (T := TX2) (N := 12) hx hb hts in_X2 hown hK hP 0 rfl rfl 8 (by decide) (hts _ q191) (fun _ h9 => h9) rfl dX2_carryOut_71 ?_
    refine lv_iload hx hb dX2_carryOut_74 (lv_at hl 2 rfl) ?_
    refine lv_aload_n hx hb dX2_carryOut_76 rfl (lv_at hl 5 rfl) ?_
    refine va_get (D := (dC, dI)) (ci := 1) (v := .ref (a 3)) (C := RX2) (T := TX2) (N := 12) hx hb hts in_X2 hown hK hP 0 rfl rfl 4 (by decide) (hts _ q187) (fun _ h9 => h9) rfl dX2_carryOut_77 ?_
    refine lv_iload_n hx hb dX2_carryOut_80 rfl (lv_at hl 4 rfl) ?_
    refine n_iald hx hb hK hP 3 0 rfl rfl l0 rfl (by omega) (by decide) dX2_carryOut_81 ?_
    refine n_iast hx hb hK hP hD hS 7 0 rfl rfl (4 * t + m4 (fa l0)) rfl (by omega) (by decide) dX2_carryOut_82 (fun H locs hP hD hS => ?_)
    have hP : va_P (dC, dI) vwCl (w2 a cI (nI T) (nI L) op fa fb fc inp out (upd rg (4 * t + m4 (fa l0)) (fb l0)) lo so st) H := hP
    have hD : va_D A (w2 a cI (nI T) (nI L) op fa fb fc inp out (upd rg (4 * t + m4 (fa l0)) (fb l0)) lo so st) := hD
    refine lv_iload_n hx hb dX2_carryOut_83 rfl (lv_at hl 3 rfl) ?_
    refine lv_iconst (v := 1) hx hb dX2_carryOut_84 (by decide) ?_
    refine lv_icmp_lt (tgt := 108) hx hb dX2_carryOut_85 (by decide) (fun d85 => ?_) (fun d85 => ?_)
    · refine lv_iload_n hx hb dX2_carryOut_108 rfl (lv_at hl 3 rfl) ?_
      refine lv_bipush (v := 6) hx hb dX2_carryOut_109 (by decide) ?_
      refine lv_icmp_ne (tgt := 122) hx hb dX2_carryOut_111 (by decide) (fun d111 => ?_) (fun d111 => ?_)
      · refine lv_iload_n hx hb dX2_carryOut_122 rfl (lv_at hl 3 rfl) ?_
        refine lv_bipush (v := 7) hx hb dX2_carryOut_123 (by decide) ?_
        refine lv_icmp_ne (tgt := 145) hx hb dX2_carryOut_125 (by decide) (fun d125 => ?_) (fun d125 => ?_)
        · refine lv_iload_n hx hb dX2_carryOut_145 rfl (lv_at hl 3 rfl) ?_
          refine lv_bipush (v := 8) hx hb dX2_carryOut_146 (by decide) ?_
          refine lv_icmp_ne (tgt := 171) hx hb dX2_carryOut_148 (by decide) (fun d148 => ?_) (fun d148 => ?_)
          · refine lv_iload_n hx hb dX2_carryOut_171 rfl (lv_at hl 3 rfl) ?_
            refine lv_bipush (v := 9) hx hb dX2_carryOut_172 (by decide) ?_
            refine lv_icmp_eq (tgt := 193) hx hb dX2_carryOut_174 (by decide) (fun d174 => ?_) (fun d174 => ?_)
            · exact absurd d174 (by rw [c0]; decide)
            · refine lv_iload_n hx hb dX2_carryOut_177 rfl (lv_at hl 3 rfl) ?_
              refine lv_bipush (v := 10) hx hb dX2_carryOut_178 (by decide) ?_
              refine lv_icmp_ne (tgt := 203) hx hb dX2_carryOut_180 (by decide) (fun d180 => ?_) (fun d180 => ?_)
              · refine lv_iload_n hx hb dX2_carryOut_203 rfl (lv_at hl 4 rfl) ?_
                refine lv_iconst (v := 1) hx hb dX2_carryOut_204 (by decide) ?_
                refine lv_iadd hx hb dX2_carryOut_205 ?_
                refine n_topi (y := nI (l0 + 1)) (nI_1 l0) ?_
                have hP : va_P (dC, dI) vwCl (w2 a cI (nI T) (nI L) op fa fb fc inp (wkO (op, fa, fb, fc, inp, L) (op l0) t l0 rg out) (wkR (op, fa, fb, fc, inp, L) (op l0) t l0 rg) lo so st) H := by rw [show wkR (op, fa, fb, fc, inp, L) (op l0) t l0 rg = upd rg (4 * t + m4 (fa l0)) (fb l0) from wkR_a c0, show wkO (op, fa, fb, fc, inp, L) (op l0) t l0 rg out = out from wkO_n (by rw [c0]; decide)]; exact hP
                have hD : va_D A (w2 a cI (nI T) (nI L) op fa fb fc inp (wkO (op, fa, fb, fc, inp, L) (op l0) t l0 rg out) (wkR (op, fa, fb, fc, inp, L) (op l0) t l0 rg) lo so st) := by rw [show wkR (op, fa, fb, fc, inp, L) (op l0) t l0 rg = upd rg (4 * t + m4 (fa l0)) (fb l0) from wkR_a c0, show wkO (op, fa, fb, fc, inp, L) (op l0) t l0 rg out = out from wkO_n (by rw [c0]; decide)]; exact hD
                exact W.iret (v := nI (l0 + 1)) hx hb hr (fun t9 h9 hW9 => ⟨⟨_, (), rfl, congrArg nI (nxt_n (fun q => by rw [c0] at q; exact absurd q (by intro z; rcases z with z | z; exact absurd z (by decide); exact absurd z.1 (by decide)))).symm, by rw [h9]; exact hP, va_K.moved hW9.alike hK, hD⟩, hS.F h9⟩) hS.2.2 dX2_carryOut_206
              · exact absurd d180 (by rw [c0]; decide)
          · exact absurd d148 (by rw [c0]; decide)
        · exact absurd d125 (by rw [c0]; decide)
      · exact absurd d111 (by rw [c0]; decide)
    · exact absurd d85 (by rw [c0]; decide)
end
section
/-! contracts: runThread, run of WarpMachineModel -/
section RunThread
variable {p : Program} {l : Launch} {e : Env} {R : Room} {s : State} {m : MethodId} {args : Array Value} {below : List Frame} {meth : Method} {c : Code} {Q : State → Prop} {A : Nat → Prop} {dC : Nat → ClassId} {dI : Nat → Nat → Nat} {a : Nat → Nat} {cI cJ : ClassId}
set_option maxHeartbeats 4000000 in
set_option maxRecDepth 100000 in
theorem lpX2_thr1 (SF : CallFix p m c cX2_runThread 3 s args lw_all RX2) (hK : va_K (dC, dI) vwCl (tyL cI cJ) s) (T L t : Nat) (ht : t < 8) (op fa fb fc inp out rg lo so st : Nat → Int32) 
    (kk : ∀ (H : Heap) (locs : List Loc) (ls : Array Slot), va_P (dC, dI) vwCl (w2 a cI (nI T) (nI L) op fa fb fc inp out (z4 t 4 rg) lo so st) H → va_D A (w2 a cI (nI T) (nI L) op fa fb fc inp out (z4 t 4 rg) lo so st) → va_S A s.heap H locs → lv_has ls 3 [(2, .int (nI 4)), (0, .ref (a 0)), (1, .int (nI t))] → W p l e R s m args below meth c H locs 0 0 Q (F0 m 24 ls [])) :
    ∀ (n i : Nat), i + n = 4 → ∀ (H : Heap) (locs : List Loc) (ls : Array Slot), va_P (dC, dI) vwCl (w2 a cI (nI T) (nI L) op fa fb fc inp out (z4 t i rg) lo so st) H → va_D A (w2 a cI (nI T) (nI L) op fa fb fc inp out (z4 t i rg) lo so st) → va_S A s.heap H locs → lv_has ls 3 [(2, .int (nI i)), (0, .ref (a 0)), (1, .int (nI t))] → W p l e R s m args below meth c H locs 0 0 Q (F0 m 2 ls []) := by
  obtain ⟨hx, hb, hml, hown, hts⟩ := id SF
  intro n
  induction n with
  | zero =>
    intro i hi H locs ls hP hD hS hl
    refine lv_iload_n hx hb dX2_runThread_2 rfl (lv_at hl 0 rfl) ?_
    refine lv_iconst (v := 4) hx hb dX2_runThread_3 (by decide) ?_
    refine lv_icmp_ge (tgt := 24) hx hb dX2_runThread_4 (by decide) (fun cz => ?_) (fun cz => ?_)
    · obtain rfl : i = 4 := by omega
      exact kk H locs ls hP hD hS hl
    · exact absurd (nI_le (a := 4) (b := i) (by omega) (by omega)) cz
  | succ n ih =>
    intro i hi H locs ls hP hD hS hl
    refine lv_iload_n hx hb dX2_runThread_2 rfl (lv_at hl 0 rfl) ?_
    refine lv_iconst (v := 4) hx hb dX2_runThread_3 (by decide) ?_
    refine lv_icmp_ge (tgt := 24) hx hb dX2_runThread_4 (by decide) (fun cs => ?_) (fun cs => ?_)
    · exact absurd cs (nI_ge (a := i) (b := 4) (by omega) (by omega))
    · refine lv_aload_n hx hb dX2_runThread_7 rfl (lv_at hl 1 rfl) ?_
      refine va_get (D := (dC, dI)) (ci := 1) (v := .ref (a 7)) (C := RX2) (T := TX2) (N := 12) hx hb hts in_X2 hown hK hP 0 rfl rfl 8 (by decide) (hts _ q191) (fun _ h9 => h9) rfl dX2_runThread_8 ?_
      refine lv_iconst (v := 4) hx hb dX2_runThread_11 (by decide) ?_
      refine lv_iload_n hx hb dX2_runThread_12 rfl (lv_at hl 2 rfl) ?_
      refine lv_imul hx hb dX2_runThread_13 ?_
      refine lv_iload_n hx hb dX2_runThread_14 rfl (lv_at hl 0 rfl) ?_
      refine lv_iadd hx hb dX2_runThread_15 ?_
      refine lv_iconst (v := 0) hx hb dX2_runThread_16 (by decide) ?_
      refine n_iast hx hb hK hP hD hS 7 0 rfl rfl (4 * t + i) (i4r t i) (by omega) (by decide) dX2_runThread_17 (fun H locs hP hD hS => ?_)
      have hP : va_P (dC, dI) vwCl (w2 a cI (nI T) (nI L) op fa fb fc inp out (upd (z4 t i rg) (4 * t + i) 0) lo so st) H := hP
      have hD : va_D A (w2 a cI (nI T) (nI L) op fa fb fc inp out (upd (z4 t i rg) (4 * t + i) 0) lo so st) := hD
      rw [show upd (z4 t i rg) (4 * t + i) 0 = z4 t (i + 1) rg from z4_s t i rg] at hP hD
      refine lv_iinc (v := nI (i + 1)) (lv' := [(2, .int (nI (i + 1))), (0, .ref (a 0)), (1, .int (nI t))]) hx hb dX2_runThread_18 hl (k := 0) rfl (nI_1 _) (by decide) rfl (fun ls hl => ?_)
      refine lv_goto (tgt := 2) hx hb dX2_runThread_21 (by decide) ?_
      exact ih (i + 1) (by omega) H locs ls hP hD hS hl
set_option maxHeartbeats 4000000 in
set_option maxRecDepth 100000 in
theorem lpX2_thr2 (SF : CallFix p m c cX2_runThread 3 s args lw_all RX2) (hK : va_K (dC, dI) vwCl (tyL cI cJ) s) (hA : ∀ q : Nat, s.heap.size ≤ q → A q) (T L t : Nat) (ht : t < 8) (hL : L ≤ 32) (op fa fb fc inp : Nat → Int32) (hop : ∀ j, 0 ≤ op j) (rg0 out0 lo so st : Nat → Int32)
    (kk : ∀ (R O : Nat → Int32) (H : Heap) (locs : List Loc) (ls : Array Slot), thR (op, fa, fb, fc, inp, L) t 48 rg0 out0 R O → va_P (dC, dI) vwCl (w2 a cI (nI T) (nI L) op fa fb fc inp O R (upd lo t (nI (zL (cfg (op, fa, fb, fc, inp, L) t 48)))) (upd so t (nI (zK (cfg (op, fa, fb, fc, inp, L) t 48)))) (upd st t (if zH (cfg (op, fa, fb, fc, inp, L) t 48) = true then (1 : Int32) else 2))) H → va_D A (w2 a cI (nI T) (nI L) op fa fb fc inp O R (upd lo t (nI (zL (cfg (op, fa, fb, fc, inp, L) t 48)))) (upd so t (nI (zK (cfg (op, fa, fb, fc, inp, L) t 48)))) (upd st t (if zH (cfg (op, fa, fb, fc, inp, L) t 48) = true then (1 : Int32) else 2))) → va_S A s.heap H locs → lv_has ls 3 [(0, .ref (a 0)), (1, .int (nI t))] → W p l e ({ frames := 2, cells := 0, slots := 0, locals := 48 } : Room) s m args below meth c H locs 0 0 Q (F0 m 129 ls [])) :
    ∀ (n i : Nat), i + n = 48 → ∀ (R O : Nat → Int32) (H : Heap) (locs : List Loc) (ls : Array Slot), thR (op, fa, fb, fc, inp, L) t i rg0 out0 R O → va_P (dC, dI) vwCl (w2 a cI (nI T) (nI L) op fa fb fc inp O R (upd lo t (nI (zL (cfg (op, fa, fb, fc, inp, L) t i)))) (upd so t (nI (zK (cfg (op, fa, fb, fc, inp, L) t i)))) (upd st t (if zH (cfg (op, fa, fb, fc, inp, L) t i) = true then (1 : Int32) else 2))) H → va_D A (w2 a cI (nI T) (nI L) op fa fb fc inp O R (upd lo t (nI (zL (cfg (op, fa, fb, fc, inp, L) t i)))) (upd so t (nI (zK (cfg (op, fa, fb, fc, inp, L) t i)))) (upd st t (if zH (cfg (op, fa, fb, fc, inp, L) t i) = true then (1 : Int32) else 2))) → va_S A s.heap H locs → lv_has ls 3 [(2, .int (nI i)), (0, .ref (a 0)), (1, .int (nI t))] → W p l e ({ frames := 2, cells := 0, slots := 0, locals := 48 } : Room) s m args below meth c H locs 0 0 Q (F0 m 47 ls []) := by
  obtain ⟨hx, hb, hml, hown, hts⟩ := id SF
  intro n
  induction n with
  | zero =>
    intro i hi R O H locs ls hR hP hD hS hl
    have hz : zL (cfg (op, fa, fb, fc, inp, L) t i) ≤ 32 := cfg_line (P := (op, fa, fb, fc, inp, L)) hL t i
    refine lv_iload_n hx hb dX2_runThread_47 rfl (lv_at hl 0 rfl) ?_
    refine lv_bipush (v := 48) hx hb dX2_runThread_48 (by decide) ?_
    refine lv_icmp_ge (tgt := 129) hx hb dX2_runThread_50 (by decide) (fun cz => ?_) (fun cz => ?_)
    · obtain rfl : i = 48 := by omega
      exact kk R O H locs ls hR hP hD hS (lv_sub hl [1, 2] rfl)
    · exact absurd (nI_le (a := 48) (b := i) (by omega) (by omega)) cz
  | succ n ih =>
    intro i hi R O H locs ls hR hP hD hS hl
    have hz : zL (cfg (op, fa, fb, fc, inp, L) t i) ≤ 32 := cfg_line (P := (op, fa, fb, fc, inp, L)) hL t i
    refine lv_iload_n hx hb dX2_runThread_47 rfl (lv_at hl 0 rfl) ?_
    refine lv_bipush (v := 48) hx hb dX2_runThread_48 (by decide) ?_
    refine lv_icmp_ge (tgt := 129) hx hb dX2_runThread_50 (by decide) (fun cs => ?_) (fun cs => ?_)
    · exact absurd cs (nI_ge (a := i) (b := 48) (by omega) (by omega))
    · refine lv_aload_n hx hb dX2_runThread_53 rfl (lv_at hl 1 rfl) ?_
      refine va_get (D := (dC, dI)) (ci := 1) (v := .ref (a 8)) (C := RX2) (T := TX2) (N := 12) hx hb hts in_X2 hown hK hP 0 rfl rfl 9 (by decide) (hts _ q192) (fun _ h9 => h9) rfl dX2_runThread_54 ?_
      refine lv_iload_n hx hb dX2_runThread_57 rfl (lv_at hl 2 rfl) ?_
      refine n_iald hx hb hK hP 8 0 rfl rfl t rfl (by omega) (by decide) dX2_runThread_58 ?_
      refine n_topi (y := nI (zL (cfg (op, fa, fb, fc, inp, L) t i))) pk_us ?_
      refine lv_aload_n hx hb dX2_runThread_59 rfl (lv_at hl 1 rfl) ?_
      refine va_get (D := (dC, dI)) (ci := 1) (v := .int (nI L)) (C := RX2) (T := TX2) (N := 12) hx hb hts in_X2 hown hK hP 0 rfl rfl 1 (by decide) (hts _ q184) (fun _ h9 => h9) rfl dX2_runThread_60 ?_
      refine lv_icmp_ge (tgt := 129) hx hb dX2_runThread_63 (by decide) (fun c1 => ?_) (fun c1 => ?_)
      · have hs : zStop (op, fa, fb, fc, inp, L) (cfg (op, fa, fb, fc, inp, L) t i) := Or.inr ((nI_leI (a := L) (b := zL (cfg (op, fa, fb, fc, inp, L) t i)) (by omega) (by omega)).mp c1)
        rw [(cfg_stop hs 48 (by omega)).symm] at hP hD
        have hR : thR (op, fa, fb, fc, inp, L) t 48 rg0 out0 R O := by unfold thR; rw [cfg_stop hs 48 (by omega)]; exact hR
        exact kk R O H locs ls hR hP hD hS (lv_sub hl [1, 2] rfl)
      · refine lv_aload_n hx hb dX2_runThread_66 rfl (lv_at hl 1 rfl) ?_
        refine va_get (D := (dC, dI)) (ci := 1) (v := .ref (a 10)) (C := RX2) (T := TX2) (N := 12) hx hb hts in_X2 hown hK hP 0 rfl rfl 11 (by decide) (hts _ q194) (fun _ h9 => h9) rfl dX2_runThread_67 ?_
        refine lv_iload_n hx hb dX2_runThread_70 rfl (lv_at hl 2 rfl) ?_
        refine n_iald hx hb hK hP 10 0 rfl rfl t rfl (by omega) (by decide) dX2_runThread_71 ?_
        refine n_topi (y := if zH (cfg (op, fa, fb, fc, inp, L) t i) = true then (1 : Int32) else 2) pk_us ?_
        refine lv_iconst (v := 2) hx hb dX2_runThread_72 (by decide) ?_
        refine lv_icmp_ne (tgt := 129) hx hb dX2_runThread_73 (by decide) (fun c2 => ?_) (fun c2 => ?_)
        · have hs : zStop (op, fa, fb, fc, inp, L) (cfg (op, fa, fb, fc, inp, L) t i) := Or.inl (Classical.byContradiction fun q => c2 (if_neg q))
          rw [(cfg_stop hs 48 (by omega)).symm] at hP hD
          have hR : thR (op, fa, fb, fc, inp, L) t 48 rg0 out0 R O := by unfold thR; rw [cfg_stop hs 48 (by omega)]; exact hR
          exact kk R O H locs ls hR hP hD hS (lv_sub hl [1, 2] rfl)
        · have hzf : ¬ zH (cfg (op, fa, fb, fc, inp, L) t i) = true := fun q => by rw [if_pos q] at c2; exact absurd c2 (by decide)
          have hs : ¬ zStop (op, fa, fb, fc, inp, L) (cfg (op, fa, fb, fc, inp, L) t i) := fun q => q.elim hzf (fun z => c1 ((nI_leI (a := L) (b := zL (cfg (op, fa, fb, fc, inp, L) t i)) (by omega) (by omega)).mpr z))
          have hlt : zL (cfg (op, fa, fb, fc, inp, L) t i) < L := Nat.lt_of_not_le (fun q => hs (Or.inr q))
          refine lv_aload_n hx hb dX2_runThread_76 rfl (lv_at hl 1 rfl) ?_
          refine va_get (D := (dC, dI)) (ci := 1) (v := .ref (a 9)) (C := RX2) (T := TX2) (N := 12) hx hb hts in_X2 hown hK hP 0 rfl rfl 10 (by decide) (hts _ q193) (fun _ h9 => h9) rfl dX2_runThread_77 ?_
          refine lv_iload_n hx hb dX2_runThread_80 rfl (lv_at hl 2 rfl) ?_
          refine lv_dup2_11 hx hb dX2_runThread_81 rfl rfl ?_
          refine n_iald hx hb hK hP 9 0 rfl rfl t rfl (by omega) (by decide) dX2_runThread_82 ?_
          refine n_topi (y := nI (zK (cfg (op, fa, fb, fc, inp, L) t i))) pk_us ?_
          refine lv_iconst (v := 1) hx hb dX2_runThread_83 (by decide) ?_
          refine lv_iadd hx hb dX2_runThread_84 ?_
          refine n_topi (y := nI (zK (cfg (op, fa, fb, fc, inp, L) t (i + 1)))) (by rw [cfg_ks hs]; exact nI_1 _) ?_
          refine n_iast hx hb hK hP hD hS 9 0 rfl rfl t rfl (by omega) (by decide) dX2_runThread_85 (fun H locs hP hD hS => ?_)
          have hP : va_P (dC, dI) vwCl (w2 a cI (nI T) (nI L) op fa fb fc inp O R (upd lo t (nI (zL (cfg (op, fa, fb, fc, inp, L) t i)))) (upd (upd so t (nI (zK (cfg (op, fa, fb, fc, inp, L) t i)))) t (nI (zK (cfg (op, fa, fb, fc, inp, L) t (i + 1))))) (upd st t (if zH (cfg (op, fa, fb, fc, inp, L) t i) = true then (1 : Int32) else 2))) H := hP
          have hD : va_D A (w2 a cI (nI T) (nI L) op fa fb fc inp O R (upd lo t (nI (zL (cfg (op, fa, fb, fc, inp, L) t i)))) (upd (upd so t (nI (zK (cfg (op, fa, fb, fc, inp, L) t i)))) t (nI (zK (cfg (op, fa, fb, fc, inp, L) t (i + 1))))) (upd st t (if zH (cfg (op, fa, fb, fc, inp, L) t i) = true then (1 : Int32) else 2))) := hD
          rw [show upd (upd so t (nI (zK (cfg (op, fa, fb, fc, inp, L) t i)))) t (nI (zK (cfg (op, fa, fb, fc, inp, L) t (i + 1)))) = upd so t (nI (zK (cfg (op, fa, fb, fc, inp, L) t (i + 1)))) from upd_upd _ _ _ _] at hP hD
          refine lv_aload_n hx hb dX2_runThread_86 rfl (lv_at hl 1 rfl) ?_
          refine va_get (D := (dC, dI)) (ci := 1) (v := .ref (a 1)) (C := RX2) (T := TX2) (N := 12) hx hb hts in_X2 hown hK hP 0 rfl rfl 2 (by decide) (hts _ q185) (fun _ h9 => h9) rfl dX2_runThread_87 ?_
          refine lv_aload_n hx hb dX2_runThread_90 rfl (lv_at hl 1 rfl) ?_
          refine va_get (D := (dC, dI)) (ci := 1) (v := .ref (a 8)) (C := RX2) (T := TX2) (N := 12) hx hb hts in_X2 hown hK hP 0 rfl rfl 9 (by decide) (hts _ q192) (fun _ h9 => h9) rfl dX2_runThread_91 ?_
          refine lv_iload_n hx hb dX2_runThread_94 rfl (lv_at hl 2 rfl) ?_
          refine n_iald hx hb hK hP 8 0 rfl rfl t rfl (by omega) (by decide) dX2_runThread_95 ?_
          refine n_topi (y := nI (zL (cfg (op, fa, fb, fc, inp, L) t i))) pk_us ?_
          refine n_iald hx hb hK hP 1 0 rfl rfl (zL (cfg (op, fa, fb, fc, inp, L) t i)) rfl (by omega) (by decide) dX2_runThread_96 ?_
          refine lv_bipush (v := 11) hx hb dX2_runThread_97 (by decide) ?_
          refine lv_icmp_ne (tgt := 112) hx hb dX2_runThread_99 (by decide) (fun c3 => ?_) (fun c3 => ?_)
          · obtain ⟨hR1, hl1, hh1⟩ := thR_go hR hs c3
            refine lv_aload_n hx hb dX2_runThread_112 rfl (lv_at hl 1 rfl) ?_
            refine va_get (D := (dC, dI)) (ci := 1) (v := .ref (a 8)) (C := RX2) (T := TX2) (N := 12) hx hb hts in_X2 hown hK hP 0 rfl rfl 9 (by decide) (hts _ q192) (fun _ h9 => h9) rfl dX2_runThread_113 ?_
            refine lv_iload_n hx hb dX2_runThread_116 rfl (lv_at hl 2 rfl) ?_
            refine lv_aload_n hx hb dX2_runThread_117 rfl (lv_at hl 1 rfl) ?_
            refine lv_iload_n hx hb dX2_runThread_118 rfl (lv_at hl 2 rfl) ?_
            refine n_calli (As := [.int (nI t)]) (rest := [.int (nI t), .ref (a 8)]) SF (mX2_carryOut l dC dI a cI cJ _ T L op fa fb fc inp O R (upd lo t (nI (zL (cfg (op, fa, fb, fc, inp, L) t i)))) (upd so t (nI (zK (cfg (op, fa, fb, fc, inp, L) t (i + 1))))) (upd st t (if zH (cfg (op, fa, fb, fc, inp, L) t i) = true then (1 : Int32) else 2)) t (zL (cfg (op, fa, fb, fc, inp, L) t i)) ht (by omega) pk_us (hop _)) (cwV 1 hts (lw_V q240 q242 qs13 q17 q243) rfl rfl rfl (by decide +kernel) ⟨Nat.le_of_ble_eq_true rfl, Nat.le_of_ble_eq_true rfl⟩) hK hP hD hS hA 0 1 rfl rfl rfl rfl hl.1 rfl (Nat.le_of_ble_eq_true rfl) dX2_runThread_119 ⟨Nat.le_of_ble_eq_true rfl, Nat.le_of_ble_eq_true rfl⟩ (fun r _ H locs er hP hD hS => ?_)
            have hP : va_P (dC, dI) vwCl (w2 a cI (nI T) (nI L) op fa fb fc inp (wkO (op, fa, fb, fc, inp, L) (op (zL (cfg (op, fa, fb, fc, inp, L) t i))) t (zL (cfg (op, fa, fb, fc, inp, L) t i)) R O) (wkR (op, fa, fb, fc, inp, L) (op (zL (cfg (op, fa, fb, fc, inp, L) t i))) t (zL (cfg (op, fa, fb, fc, inp, L) t i)) R) (upd lo t (nI (zL (cfg (op, fa, fb, fc, inp, L) t i)))) (upd so t (nI (zK (cfg (op, fa, fb, fc, inp, L) t (i + 1))))) (upd st t (if zH (cfg (op, fa, fb, fc, inp, L) t i) = true then (1 : Int32) else 2))) H := hP
            have hD : va_D A (w2 a cI (nI T) (nI L) op fa fb fc inp (wkO (op, fa, fb, fc, inp, L) (op (zL (cfg (op, fa, fb, fc, inp, L) t i))) t (zL (cfg (op, fa, fb, fc, inp, L) t i)) R O) (wkR (op, fa, fb, fc, inp, L) (op (zL (cfg (op, fa, fb, fc, inp, L) t i))) t (zL (cfg (op, fa, fb, fc, inp, L) t i)) R) (upd lo t (nI (zL (cfg (op, fa, fb, fc, inp, L) t i)))) (upd so t (nI (zK (cfg (op, fa, fb, fc, inp, L) t (i + 1))))) (upd st t (if zH (cfg (op, fa, fb, fc, inp, L) t i) = true then (1 : Int32) else 2))) := hD
            refine n_iast hx hb hK hP hD hS 8 0 rfl rfl t rfl (by omega) (by decide) dX2_runThread_122 (fun H locs hP hD hS => ?_)
            have hP : va_P (dC, dI) vwCl (w2 a cI (nI T) (nI L) op fa fb fc inp (wkO (op, fa, fb, fc, inp, L) (op (zL (cfg (op, fa, fb, fc, inp, L) t i))) t (zL (cfg (op, fa, fb, fc, inp, L) t i)) R O) (wkR (op, fa, fb, fc, inp, L) (op (zL (cfg (op, fa, fb, fc, inp, L) t i))) t (zL (cfg (op, fa, fb, fc, inp, L) t i)) R) (upd (upd lo t (nI (zL (cfg (op, fa, fb, fc, inp, L) t i)))) t r) (upd so t (nI (zK (cfg (op, fa, fb, fc, inp, L) t (i + 1))))) (upd st t (if zH (cfg (op, fa, fb, fc, inp, L) t i) = true then (1 : Int32) else 2))) H := hP
            have hD : va_D A (w2 a cI (nI T) (nI L) op fa fb fc inp (wkO (op, fa, fb, fc, inp, L) (op (zL (cfg (op, fa, fb, fc, inp, L) t i))) t (zL (cfg (op, fa, fb, fc, inp, L) t i)) R O) (wkR (op, fa, fb, fc, inp, L) (op (zL (cfg (op, fa, fb, fc, inp, L) t i))) t (zL (cfg (op, fa, fb, fc, inp, L) t i)) R) (upd (upd lo t (nI (zL (cfg (op, fa, fb, fc, inp, L) t i)))) t r) (upd so t (nI (zK (cfg (op, fa, fb, fc, inp, L) t (i + 1))))) (upd st t (if zH (cfg (op, fa, fb, fc, inp, L) t i) = true then (1 : Int32) else 2))) := hD
            rw [show upd (upd lo t (nI (zL (cfg (op, fa, fb, fc, inp, L) t i)))) t r = upd lo t (nI (zL (cfg (op, fa, fb, fc, inp, L) t (i + 1)))) from (by rw [upd_upd, er, hl1])] at hP hD
            rw [show upd st t (if zH (cfg (op, fa, fb, fc, inp, L) t i) = true then (1 : Int32) else 2) = upd st t (if zH (cfg (op, fa, fb, fc, inp, L) t (i + 1)) = true then (1 : Int32) else 2) from (by rw [if_neg hzf, if_neg (by rw [hh1]; decide)])] at hP hD
            refine lv_iinc (v := nI (i + 1)) (lv' := [(2, .int (nI (i + 1))), (0, .ref (a 0)), (1, .int (nI t))]) hx hb dX2_runThread_123 hl (k := 0) rfl (nI_1 _) (by decide) rfl (fun ls hl => ?_)
            refine lv_goto (tgt := 47) hx hb dX2_runThread_126 (by decide) ?_
            exact ih (i + 1) (by omega) _ _ H locs ls hR1 hP hD hS hl
          · obtain ⟨hR1, hl1, hh1⟩ := thR_halt hR hs c3
            refine lv_aload_n hx hb dX2_runThread_102 rfl (lv_at hl 1 rfl) ?_
            refine va_get (D := (dC, dI)) (ci := 1) (v := .ref (a 10)) (C := RX2) (T := TX2) (N := 12) hx hb hts in_X2 hown hK hP 0 rfl rfl 11 (by decide) (hts _ q194) (fun _ h9 => h9) rfl dX2_runThread_103 ?_
            refine lv_iload_n hx hb dX2_runThread_106 rfl (lv_at hl 2 rfl) ?_
            refine lv_iconst (v := 1) hx hb dX2_runThread_107 (by decide) ?_
            refine n_iast hx hb hK hP hD hS 10 0 rfl rfl t rfl (by omega) (by decide) dX2_runThread_108 (fun H locs hP hD hS => ?_)
            have hP : va_P (dC, dI) vwCl (w2 a cI (nI T) (nI L) op fa fb fc inp O R (upd lo t (nI (zL (cfg (op, fa, fb, fc, inp, L) t i)))) (upd so t (nI (zK (cfg (op, fa, fb, fc, inp, L) t (i + 1))))) (upd (upd st t (if zH (cfg (op, fa, fb, fc, inp, L) t i) = true then (1 : Int32) else 2)) t 1)) H := hP
            have hD : va_D A (w2 a cI (nI T) (nI L) op fa fb fc inp O R (upd lo t (nI (zL (cfg (op, fa, fb, fc, inp, L) t i)))) (upd so t (nI (zK (cfg (op, fa, fb, fc, inp, L) t (i + 1))))) (upd (upd st t (if zH (cfg (op, fa, fb, fc, inp, L) t i) = true then (1 : Int32) else 2)) t 1)) := hD
            refine lv_goto (tgt := 123) hx hb dX2_runThread_109 (by decide) ?_
            rw [show upd (upd st t (if zH (cfg (op, fa, fb, fc, inp, L) t i) = true then (1 : Int32) else 2)) t 1 = upd st t (if zH (cfg (op, fa, fb, fc, inp, L) t (i + 1)) = true then (1 : Int32) else 2) from (by rw [upd_upd, if_pos hh1])] at hP hD
            rw [show upd lo t (nI (zL (cfg (op, fa, fb, fc, inp, L) t i))) = upd lo t (nI (zL (cfg (op, fa, fb, fc, inp, L) t (i + 1)))) from (by rw [hl1])] at hP hD
            refine lv_iinc (v := nI (i + 1)) (lv' := [(2, .int (nI (i + 1))), (0, .ref (a 0)), (1, .int (nI t))]) hx hb dX2_runThread_123 hl (k := 0) rfl (nI_1 _) (by decide) rfl (fun ls hl => ?_)
            refine lv_goto (tgt := 47) hx hb dX2_runThread_126 (by decide) ?_
            exact ih (i + 1) (by omega) R O H locs ls hR1 hP hD hS hl
end RunThread
set_option maxHeartbeats 4000000 in
set_option maxRecDepth 100000 in
theorem mX2_runThread (l : Launch) (dC : Nat → ClassId) (dI : Nat → Nat → Nat) (a : Nat → Nat) (cI cJ : ClassId) (sz : Nat) (T L : Nat) (op fa fb fc inp out rg lo so st : Nat → Int32) (t : Nat) (ht : t < 8) (hL : L ≤ 32) (hop : ∀ j, 0 ≤ op j) : Met l yX2_runThread (ws_ yX2_runThread cX2_runThread 3 none) ({ frames := 2, cells := 0, slots := 0, locals := 48 } : Room) (va_Pc [.ref (a 0), .int (nI t)] (prW dC dI (tyL cI cJ) sz (w2 a cI (nI T) (nI L) op fa fb fc inp out rg lo so st))) (va_Qv (fun (u : (Nat → Int32) × (Nat → Int32)) => thR (op, fa, fb, fc, inp, L) t 48 rg out u.1 u.2) (fun u => poW dC dI (tyL cI cJ) (va_A (w2 a cI (nI T) (nI L) op fa fb fc inp out rg lo so st) sz) (w2 a cI (nI T) (nI L) op fa fb fc inp u.2 u.1 (upd lo t (nI (zL (cfg (op, fa, fb, fc, inp, L) t 48)))) (upd so t (nI (zK (cfg (op, fa, fb, fc, inp, L) t 48)))) (upd st t (zSt (op, fa, fb, fc, inp, L) (cfg (op, fa, fb, fc, inp, L) t 48))))) (va_A (w2 a cI (nI T) (nI L) op fa fb fc inp out rg lo so st) sz)) 0 0 (va_A (w2 a cI (nI T) (nI L) op fa fb fc inp out rg lo so st) sz) := by
  refine n_met (by decide) (Nat.le_of_ble_eq_true rfl) ?_
  intro p e s m below meth c ls SF hr hlocks hnm hsz hK hP hD hA hl
  subst hsz
  have hS : va_S (va_A (w2 a cI (nI T) (nI L) op fa fb fc inp out rg lo so st) s.heap.size) s.heap s.heap [] := va_S.rf
  generalize va_A (w2 a cI (nI T) (nI L) op fa fb fc inp out rg lo so st) s.heap.size = A at hD hA hS ⊢
  obtain ⟨hx, hb, hml, hown, hts⟩ := id SF
  have hown : s.vm.findClass RX2 = some m.cls := hown
  have SF : CallFix p m c cX2_runThread 3 s _ lw_all RX2 := SF
  have hl : lv_has ls 3 [(0, .ref (a 0)), (1, .int (nI t))] := hl
  refine lv_iconst (v := 0) hx hb dX2_runThread_0 (by decide) ?_
  refine lv_istore_n (lv' := [(2, .int 0), (0, .ref (a 0)), (1, .int (nI t))]) hx hb dX2_runThread_1 rfl hl (by decide) rfl (fun ls hl => ?_)
  refine lpX2_thr1 SF hK T L t ht op fa fb fc inp out rg lo so st ?_ 4 0 rfl _ _ _ (by rw [z4_0]; exact hP) (by rw [z4_0]; exact hD) hS hl
  intro H locs ls hP hD hS hl
  refine lv_aload_n hx hb dX2_runThread_24 rfl (lv_at hl 1 rfl) ?_
  refine va_get (D := (dC, dI)) (ci := 1) (v := .ref (a 8)) (C := RX2) (T := TX2) (N := 12) hx hb hts in_X2 hown hK hP 0 rfl rfl 9 (by decide) (hts _ q192) (fun _ h9 => h9) rfl dX2_runThread_25 ?_
  refine lv_iload_n hx hb dX2_runThread_28 rfl (lv_at hl 2 rfl) ?_
  refine lv_iconst (v := 0) hx hb dX2_runThread_29 (by decide) ?_
  refine n_iast hx hb hK hP hD hS 8 0 rfl rfl t rfl (by omega) (by decide) dX2_runThread_30 (fun H locs hP hD hS => ?_)
  have hP : va_P (dC, dI) vwCl (w2 a cI (nI T) (nI L) op fa fb fc inp out (z4 t 4 rg) (upd lo t 0) so st) H := hP
  have hD : va_D A (w2 a cI (nI T) (nI L) op fa fb fc inp out (z4 t 4 rg) (upd lo t 0) so st) := hD
  refine lv_aload_n hx hb dX2_runThread_31 rfl (lv_at hl 1 rfl) ?_
  refine va_get (D := (dC, dI)) (ci := 1) (v := .ref (a 9)) (C := RX2) (T := TX2) (N := 12) hx hb hts in_X2 hown hK hP 0 rfl rfl 10 (by decide) (hts _ q193) (fun _ h9 => h9) rfl dX2_runThread_32 ?_
  refine lv_iload_n hx hb dX2_runThread_35 rfl (lv_at hl 2 rfl) ?_
  refine lv_iconst (v := 0) hx hb dX2_runThread_36 (by decide) ?_
  refine n_iast hx hb hK hP hD hS 9 0 rfl rfl t rfl (by omega) (by decide) dX2_runThread_37 (fun H locs hP hD hS => ?_)
  have hP : va_P (dC, dI) vwCl (w2 a cI (nI T) (nI L) op fa fb fc inp out (z4 t 4 rg) (upd lo t 0) (upd so t 0) st) H := hP
  have hD : va_D A (w2 a cI (nI T) (nI L) op fa fb fc inp out (z4 t 4 rg) (upd lo t 0) (upd so t 0) st) := hD
  refine lv_aload_n hx hb dX2_runThread_38 rfl (lv_at hl 1 rfl) ?_
  refine va_get (D := (dC, dI)) (ci := 1) (v := .ref (a 10)) (C := RX2) (T := TX2) (N := 12) hx hb hts in_X2 hown hK hP 0 rfl rfl 11 (by decide) (hts _ q194) (fun _ h9 => h9) rfl dX2_runThread_39 ?_
  refine lv_iload_n hx hb dX2_runThread_42 rfl (lv_at hl 2 rfl) ?_
  refine lv_iconst (v := 2) hx hb dX2_runThread_43 (by decide) ?_
  refine n_iast hx hb hK hP hD hS 10 0 rfl rfl t rfl (by omega) (by decide) dX2_runThread_44 (fun H locs hP hD hS => ?_)
  have hP : va_P (dC, dI) vwCl (w2 a cI (nI T) (nI L) op fa fb fc inp out (z4 t 4 rg) (upd lo t 0) (upd so t 0) (upd st t 2)) H := hP
  have hD : va_D A (w2 a cI (nI T) (nI L) op fa fb fc inp out (z4 t 4 rg) (upd lo t 0) (upd so t 0) (upd st t 2)) := hD
  refine lv_iconst (v := 0) hx hb dX2_runThread_45 (by decide) ?_
  refine lv_istore_n (lv' := [(2, .int 0), (0, .ref (a 0)), (1, .int (nI t))]) hx hb dX2_runThread_46 rfl hl (by decide) rfl (fun ls hl => ?_)
  refine lpX2_thr2 SF hK hA T L t ht hL op fa fb fc inp hop rg out lo so st ?_ 48 0 rfl _ _ _ _ _ (thR_0 _ t rg out) hP hD hS hl
  intro R O H locs ls hR hP hD hS hl
  have hz : zL (cfg (op, fa, fb, fc, inp, L) t 48) ≤ 32 := cfg_line (P := (op, fa, fb, fc, inp, L)) hL t 48
  refine lv_aload_n hx hb dX2_runThread_129 rfl (lv_at hl 0 rfl) ?_
  refine va_get (D := (dC, dI)) (ci := 1) (v := .ref (a 8)) (C := RX2) (T := TX2) (N := 12) hx hb hts in_X2 hown hK hP 0 rfl rfl 9 (by decide) (hts _ q192) (fun _ h9 => h9) rfl dX2_runThread_130 ?_
  refine lv_iload_n hx hb dX2_runThread_133 rfl (lv_at hl 1 rfl) ?_
  refine n_iald hx hb hK hP 8 0 rfl rfl t rfl (by omega) (by decide) dX2_runThread_134 ?_
  refine n_topi (y := nI (zL (cfg (op, fa, fb, fc, inp, L) t 48))) pk_us ?_
  refine lv_aload_n hx hb dX2_runThread_135 rfl (lv_at hl 0 rfl) ?_
  refine va_get (D := (dC, dI)) (ci := 1) (v := .int (nI L)) (C := RX2) (T := TX2) (N := 12) hx hb hts in_X2 hown hK hP 0 rfl rfl 1 (by decide) (hts _ q184) (fun _ h9 => h9) rfl dX2_runThread_136 ?_
  refine lv_icmp_lt (tgt := 149) hx hb dX2_runThread_139 (by decide) (fun c1 => ?_) (fun c1 => ?_)
  · have hP : va_P (dC, dI) vwCl (w2 a cI (nI T) (nI L) op fa fb fc inp O R (upd lo t (nI (zL (cfg (op, fa, fb, fc, inp, L) t 48)))) (upd so t (nI (zK (cfg (op, fa, fb, fc, inp, L) t 48)))) (upd st t (zSt (op, fa, fb, fc, inp, L) (cfg (op, fa, fb, fc, inp, L) t 48)))) H := by rw [show upd st t (zSt (op, fa, fb, fc, inp, L) (cfg (op, fa, fb, fc, inp, L) t 48)) = upd st t (if zH (cfg (op, fa, fb, fc, inp, L) t 48) = true then (1 : Int32) else 2) from (by rw [zSt_lt (fun q => Nat.not_lt.mpr q ((nI_ltI (a := zL (cfg (op, fa, fb, fc, inp, L) t 48)) (b := L) (by omega) (by omega)).mp c1))])]; exact hP
    have hD : va_D A (w2 a cI (nI T) (nI L) op fa fb fc inp O R (upd lo t (nI (zL (cfg (op, fa, fb, fc, inp, L) t 48)))) (upd so t (nI (zK (cfg (op, fa, fb, fc, inp, L) t 48)))) (upd st t (zSt (op, fa, fb, fc, inp, L) (cfg (op, fa, fb, fc, inp, L) t 48)))) := by rw [show upd st t (zSt (op, fa, fb, fc, inp, L) (cfg (op, fa, fb, fc, inp, L) t 48)) = upd st t (if zH (cfg (op, fa, fb, fc, inp, L) t 48) = true then (1 : Int32) else 2) from (by rw [zSt_lt (fun q => Nat.not_lt.mpr q ((nI_ltI (a := zL (cfg (op, fa, fb, fc, inp, L) t 48)) (b := L) (by omega) (by omega)).mp c1))])]; exact hD
    exact W.vret hx hb hr (fun t9 h9 hW9 => ⟨⟨(R, O), rfl, hR, by rw [h9]; exact hP, va_K.moved hW9.alike hK, hD⟩, hS.F h9⟩) hS.2.2 dX2_runThread_149
  · refine lv_aload_n hx hb dX2_runThread_142 rfl (lv_at hl 0 rfl) ?_
    refine va_get (D := (dC, dI)) (ci := 1) (v := .ref (a 10)) (C := RX2) (T := TX2) (N := 12) hx hb hts in_X2 hown hK hP 0 rfl rfl 11 (by decide) (hts _ q194) (fun _ h9 => h9) rfl dX2_runThread_143 ?_
    refine lv_iload_n hx hb dX2_runThread_146 rfl (lv_at hl 1 rfl) ?_
    refine lv_iconst (v := 1) hx hb dX2_runThread_147 (by decide) ?_
    refine n_iast hx hb hK hP hD hS 10 0 rfl rfl t rfl (by omega) (by decide) dX2_runThread_148 (fun H locs hP hD hS => ?_)
    have hP : va_P (dC, dI) vwCl (w2 a cI (nI T) (nI L) op fa fb fc inp O R (upd lo t (nI (zL (cfg (op, fa, fb, fc, inp, L) t 48)))) (upd so t (nI (zK (cfg (op, fa, fb, fc, inp, L) t 48)))) (upd (upd st t (if zH (cfg (op, fa, fb, fc, inp, L) t 48) = true then (1 : Int32) else 2)) t 1)) H := hP
    have hD : va_D A (w2 a cI (nI T) (nI L) op fa fb fc inp O R (upd lo t (nI (zL (cfg (op, fa, fb, fc, inp, L) t 48)))) (upd so t (nI (zK (cfg (op, fa, fb, fc, inp, L) t 48)))) (upd (upd st t (if zH (cfg (op, fa, fb, fc, inp, L) t 48) = true then (1 : Int32) else 2)) t 1)) := hD
    have hP : va_P (dC, dI) vwCl (w2 a cI (nI T) (nI L) op fa fb fc inp O R (upd lo t (nI (zL (cfg (op, fa, fb, fc, inp, L) t 48)))) (upd so t (nI (zK (cfg (op, fa, fb, fc, inp, L) t 48)))) (upd st t (zSt (op, fa, fb, fc, inp, L) (cfg (op, fa, fb, fc, inp, L) t 48)))) H := by rw [show upd st t (zSt (op, fa, fb, fc, inp, L) (cfg (op, fa, fb, fc, inp, L) t 48)) = upd (upd st t (if zH (cfg (op, fa, fb, fc, inp, L) t 48) = true then (1 : Int32) else 2)) t 1 from (by rw [upd_upd, zSt_ge (Nat.le_of_not_lt (fun q => c1 ((nI_ltI (a := zL (cfg (op, fa, fb, fc, inp, L) t 48)) (b := L) (by omega) (by omega)).mpr q)))])]; exact hP
    have hD : va_D A (w2 a cI (nI T) (nI L) op fa fb fc inp O R (upd lo t (nI (zL (cfg (op, fa, fb, fc, inp, L) t 48)))) (upd so t (nI (zK (cfg (op, fa, fb, fc, inp, L) t 48)))) (upd st t (zSt (op, fa, fb, fc, inp, L) (cfg (op, fa, fb, fc, inp, L) t 48)))) := by rw [show upd st t (zSt (op, fa, fb, fc, inp, L) (cfg (op, fa, fb, fc, inp, L) t 48)) = upd (upd st t (if zH (cfg (op, fa, fb, fc, inp, L) t 48) = true then (1 : Int32) else 2)) t 1 from (by rw [upd_upd, zSt_ge (Nat.le_of_not_lt (fun q => c1 ((nI_ltI (a := zL (cfg (op, fa, fb, fc, inp, L) t 48)) (b := L) (by omega) (by omega)).mpr q)))])]; exact hD
    exact W.vret hx hb hr (fun t9 h9 hW9 => ⟨⟨(R, O), rfl, hR, by rw [h9]; exact hP, va_K.moved hW9.alike hK, hD⟩, hS.F h9⟩) hS.2.2 dX2_runThread_149
section RunModel
variable {p : Program} {l : Launch} {e : Env} {R : Room} {s : State} {m : MethodId} {args : Array Value} {below : List Frame} {meth : Method} {c : Code} {Q : State → Prop} {A : Nat → Prop} {dC : Nat → ClassId} {dI : Nat → Nat → Nat} {a : Nat → Nat} {cI cJ : ClassId}
set_option maxHeartbeats 4000000 in
set_option maxRecDepth 100000 in
theorem lpX2_run1 (SF : CallFix p m c cX2_run 3 s args lw_all RX2) (hK : va_K (dC, dI) vwCl (tyL cI cJ) s) (T L : Nat) (op fa fb fc inp out rg lo so st : Nat → Int32) 
    (kk : ∀ (H : Heap) (locs : List Loc) (ls : Array Slot), va_P (dC, dI) vwCl (w2 a cI (nI T) (nI L) op fa fb fc inp (zr 16 out) rg lo so st) H → va_D A (w2 a cI (nI T) (nI L) op fa fb fc inp (zr 16 out) rg lo so st) → va_S A s.heap H locs → lv_has ls 3 [(1, .int (nI 16)), (0, .ref (a 0))] → W p l e R s m args below meth c H locs 0 0 Q (F0 m 21 ls [])) :
    ∀ (n i : Nat), i + n = 16 → ∀ (H : Heap) (locs : List Loc) (ls : Array Slot), va_P (dC, dI) vwCl (w2 a cI (nI T) (nI L) op fa fb fc inp (zr i out) rg lo so st) H → va_D A (w2 a cI (nI T) (nI L) op fa fb fc inp (zr i out) rg lo so st) → va_S A s.heap H locs → lv_has ls 3 [(1, .int (nI i)), (0, .ref (a 0))] → W p l e R s m args below meth c H locs 0 0 Q (F0 m 2 ls []) := by
  obtain ⟨hx, hb, hml, hown, hts⟩ := id SF
  intro n
  induction n with
  | zero =>
    intro i hi H locs ls hP hD hS hl
    refine lv_iload_n hx hb dX2_run_2 rfl (lv_at hl 0 rfl) ?_
    refine lv_bipush (v := 16) hx hb dX2_run_3 (by decide) ?_
    refine lv_icmp_ge (tgt := 21) hx hb dX2_run_5 (by decide) (fun cz => ?_) (fun cz => ?_)
    · obtain rfl : i = 16 := by omega
      exact kk H locs ls hP hD hS hl
    · exact absurd (nI_le (a := 16) (b := i) (by omega) (by omega)) cz
  | succ n ih =>
    intro i hi H locs ls hP hD hS hl
    refine lv_iload_n hx hb dX2_run_2 rfl (lv_at hl 0 rfl) ?_
    refine lv_bipush (v := 16) hx hb dX2_run_3 (by decide) ?_
    refine lv_icmp_ge (tgt := 21) hx hb dX2_run_5 (by decide) (fun cs => ?_) (fun cs => ?_)
    · exact absurd cs (nI_ge (a := i) (b := 16) (by omega) (by omega))
    · refine lv_aload_n hx hb dX2_run_8 rfl (lv_at hl 1 rfl) ?_
      refine va_get (D := (dC, dI)) (ci := 1) (v := .ref (a 6)) (C := RX2) (T := TX2) (N := 12) hx hb hts in_X2 hown hK hP 0 rfl rfl 7 (by decide) (hts _ q190) (fun _ h9 => h9) rfl dX2_run_9 ?_
      refine lv_iload_n hx hb dX2_run_12 rfl (lv_at hl 0 rfl) ?_
      refine lv_iconst (v := 0) hx hb dX2_run_13 (by decide) ?_
      refine n_iast hx hb hK hP hD hS 6 0 rfl rfl i rfl (by omega) (by decide) dX2_run_14 (fun H locs hP hD hS => ?_)
      have hP : va_P (dC, dI) vwCl (w2 a cI (nI T) (nI L) op fa fb fc inp (upd (zr i out) i 0) rg lo so st) H := hP
      have hD : va_D A (w2 a cI (nI T) (nI L) op fa fb fc inp (upd (zr i out) i 0) rg lo so st) := hD
      rw [show upd (zr i out) i 0 = zr (i + 1) out from zr_s i out] at hP hD
      refine lv_iinc (v := nI (i + 1)) (lv' := [(1, .int (nI (i + 1))), (0, .ref (a 0))]) hx hb dX2_run_15 hl (k := 0) rfl (nI_1 _) (by decide) rfl (fun ls hl => ?_)
      refine lv_goto (tgt := 2) hx hb dX2_run_18 (by decide) ?_
      exact ih (i + 1) (by omega) H locs ls hP hD hS hl
set_option maxHeartbeats 4000000 in
set_option maxRecDepth 100000 in
theorem lpX2_run2 (SF : CallFix p m c cX2_run 3 s args lw_all RX2) (hK : va_K (dC, dI) vwCl (tyL cI cJ) s) (hA : ∀ q : Nat, s.heap.size ≤ q → A q) (T L : Nat) (hT : T ≤ 8) (hL : L ≤ 32) (op fa fb fc inp : Nat → Int32) (hop : ∀ j, 0 ≤ op j)
    (kk : ∀ (out rg lo so st : Nat → Int32) (H : Heap) (locs : List Loc) (ls : Array Slot), finR (op, fa, fb, fc, inp, L) T out rg lo so st → va_P (dC, dI) vwCl (w2 a cI (nI T) (nI L) op fa fb fc inp out rg lo so st) H → va_D A (w2 a cI (nI T) (nI L) op fa fb fc inp out rg lo so st) → va_S A s.heap H locs → lv_has ls 3 [(2, .int (nI T)), (1, .int (nI (cnt (op, fa, fb, fc, inp, L) T))), (0, .ref (a 0))] → W p l e ({ frames := 3, cells := 0, slots := 0, locals := 70 } : Room) s m args below meth c H locs 0 0 Q (F0 m 57 ls [])) :
    ∀ (n i : Nat), i + n = T → ∀ (out rg lo so st : Nat → Int32) (H : Heap) (locs : List Loc) (ls : Array Slot), finR (op, fa, fb, fc, inp, L) i out rg lo so st → va_P (dC, dI) vwCl (w2 a cI (nI T) (nI L) op fa fb fc inp out rg lo so st) H → va_D A (w2 a cI (nI T) (nI L) op fa fb fc inp out rg lo so st) → va_S A s.heap H locs → lv_has ls 3 [(2, .int (nI i)), (1, .int (nI (cnt (op, fa, fb, fc, inp, L) i))), (0, .ref (a 0))] → W p l e ({ frames := 3, cells := 0, slots := 0, locals := 70 } : Room) s m args below meth c H locs 0 0 Q (F0 m 25 ls []) := by
  obtain ⟨hx, hb, hml, hown, hts⟩ := id SF
  intro n
  induction n with
  | zero =>
    intro i hi out rg lo so st H locs ls hF hP hD hS hl
    refine lv_iload_n hx hb dX2_run_25 rfl (lv_at hl 0 rfl) ?_
    refine lv_aload_n hx hb dX2_run_26 rfl (lv_at hl 2 rfl) ?_
    refine va_get (D := (dC, dI)) (ci := 1) (v := .int (nI T)) (C := RX2) (T := TX2) (N := 12) hx hb hts in_X2 hown hK hP 0 rfl rfl 0 (by decide) (hts _ q183) (fun _ h9 => h9) rfl dX2_run_27 ?_
    refine lv_icmp_ge (tgt := 57) hx hb dX2_run_30 (by decide) (fun cz => ?_) (fun cz => ?_)
    · obtain rfl : i = T := by omega
      exact kk out rg lo so st H locs ls hF hP hD hS hl
    · exact absurd (nI_le (a := T) (b := i) (by omega) (by omega)) cz
  | succ n ih =>
    intro i hi out rg lo so st H locs ls hF hP hD hS hl
    refine lv_iload_n hx hb dX2_run_25 rfl (lv_at hl 0 rfl) ?_
    refine lv_aload_n hx hb dX2_run_26 rfl (lv_at hl 2 rfl) ?_
    refine va_get (D := (dC, dI)) (ci := 1) (v := .int (nI T)) (C := RX2) (T := TX2) (N := 12) hx hb hts in_X2 hown hK hP 0 rfl rfl 0 (by decide) (hts _ q183) (fun _ h9 => h9) rfl dX2_run_27 ?_
    refine lv_icmp_ge (tgt := 57) hx hb dX2_run_30 (by decide) (fun cs => ?_) (fun cs => ?_)
    · exact absurd cs (nI_ge (a := i) (b := T) (by omega) (by omega))
    · refine lv_aload_n hx hb dX2_run_33 rfl (lv_at hl 2 rfl) ?_
      refine lv_iload_n hx hb dX2_run_34 rfl (lv_at hl 0 rfl) ?_
      refine n_callv (As := [.int (nI i)]) (rest := []) SF (mX2_runThread l dC dI a cI cJ _ T L op fa fb fc inp out rg lo so st i (by omega) hL hop) (cwV 1 hts (lw_V q236 q238 qs12 q17 q239) rfl rfl rfl (by decide +kernel) ⟨Nat.le_of_ble_eq_true rfl, Nat.le_of_ble_eq_true rfl⟩) hK hP hD hS hA 0 1 rfl rfl rfl rfl hl.1 rfl (Nat.le_of_ble_eq_true rfl) dX2_run_35 ⟨Nat.le_of_ble_eq_true rfl, Nat.le_of_ble_eq_true rfl⟩ (fun u H locs hu hP hD hS => ?_)
      have hP : va_P (dC, dI) vwCl (w2 a cI (nI T) (nI L) op fa fb fc inp u.2 u.1 (upd lo i (nI (zL (cfg (op, fa, fb, fc, inp, L) i 48)))) (upd so i (nI (zK (cfg (op, fa, fb, fc, inp, L) i 48)))) (upd st i (zSt (op, fa, fb, fc, inp, L) (cfg (op, fa, fb, fc, inp, L) i 48)))) H := hP
      have hD : va_D A (w2 a cI (nI T) (nI L) op fa fb fc inp u.2 u.1 (upd lo i (nI (zL (cfg (op, fa, fb, fc, inp, L) i 48)))) (upd so i (nI (zK (cfg (op, fa, fb, fc, inp, L) i 48)))) (upd st i (zSt (op, fa, fb, fc, inp, L) (cfg (op, fa, fb, fc, inp, L) i 48)))) := hD
      refine lv_aload_n hx hb dX2_run_38 rfl (lv_at hl 2 rfl) ?_
      refine va_get (D := (dC, dI)) (ci := 1) (v := .ref (a 10)) (C := RX2) (T := TX2) (N := 12) hx hb hts in_X2 hown hK hP 0 rfl rfl 11 (by decide) (hts _ q194) (fun _ h9 => h9) rfl dX2_run_39 ?_
      refine lv_iload_n hx hb dX2_run_42 rfl (lv_at hl 0 rfl) ?_
      refine n_iald hx hb hK hP 10 0 rfl rfl i rfl (by omega) (by decide) dX2_run_43 ?_
      refine n_topi (y := zSt (op, fa, fb, fc, inp, L) (cfg (op, fa, fb, fc, inp, L) i 48)) pk_us ?_
      refine lv_iconst (v := 1) hx hb dX2_run_44 (by decide) ?_
      refine lv_icmp_ne (tgt := 51) hx hb dX2_run_45 (by decide) (fun c1 => ?_) (fun c1 => ?_)
      · rw [show cnt (op, fa, fb, fc, inp, L) i = cnt (op, fa, fb, fc, inp, L) (i + 1) from cnt_n c1] at hl
        refine lv_iinc (v := nI (i + 1)) (lv' := [(2, .int (nI (i + 1))), (1, .int (nI (cnt (op, fa, fb, fc, inp, L) (i + 1)))), (0, .ref (a 0))]) hx hb dX2_run_51 hl (k := 0) rfl (nI_1 _) (by decide) rfl (fun ls hl => ?_)
        refine lv_goto (tgt := 25) hx hb dX2_run_54 (by decide) ?_
        exact ih (i + 1) (by omega) _ _ _ _ _ H locs ls (finR_s hF hu) hP hD hS hl
      · refine lv_iinc (v := nI (cnt (op, fa, fb, fc, inp, L) (i + 1))) (lv' := [(1, .int (nI (cnt (op, fa, fb, fc, inp, L) (i + 1)))), (2, .int (nI i)), (0, .ref (a 0))]) hx hb dX2_run_48 hl (k := 1) rfl (by rw [cnt_y c1]; exact nI_1 _) (by decide) rfl (fun ls hl => ?_)
        refine lv_iinc (v := nI (i + 1)) (lv' := [(2, .int (nI (i + 1))), (1, .int (nI (cnt (op, fa, fb, fc, inp, L) (i + 1)))), (0, .ref (a 0))]) hx hb dX2_run_51 hl (k := 1) rfl (nI_1 _) (by decide) rfl (fun ls hl => ?_)
        refine lv_goto (tgt := 25) hx hb dX2_run_54 (by decide) ?_
        exact ih (i + 1) (by omega) _ _ _ _ _ H locs ls (finR_s hF hu) hP hD hS hl
end RunModel
set_option maxHeartbeats 4000000 in
set_option maxRecDepth 100000 in
theorem mX2_run (l : Launch) (dC : Nat → ClassId) (dI : Nat → Nat → Nat) (a : Nat → Nat) (cI cJ : ClassId) (sz : Nat) (T L : Nat) (op fa fb fc inp out rg lo so st : Nat → Int32)  (hT : T ≤ 8) (hL : L ≤ 32) (hop : ∀ j, 0 ≤ op j) : Met l yX2_run (ws_ yX2_run cX2_run 3 (some .int)) ({ frames := 3, cells := 0, slots := 0, locals := 70 } : Room) (va_Pc [.ref (a 0)] (prW dC dI (tyL cI cJ) sz (w2 a cI (nI T) (nI L) op fa fb fc inp out rg lo so st))) (va_Qi (fun (r : Int32) (u : (Nat → Int32) × (Nat → Int32) × (Nat → Int32) × (Nat → Int32) × (Nat → Int32)) => r = nI (cnt (op, fa, fb, fc, inp, L) T) ∧ finR (op, fa, fb, fc, inp, L) T u.1 u.2.1 u.2.2.1 u.2.2.2.1 u.2.2.2.2) (fun u => poW dC dI (tyL cI cJ) (va_A (w2 a cI (nI T) (nI L) op fa fb fc inp out rg lo so st) sz) (w2 a cI (nI T) (nI L) op fa fb fc inp u.1 u.2.1 u.2.2.1 u.2.2.2.1 u.2.2.2.2)) (va_A (w2 a cI (nI T) (nI L) op fa fb fc inp out rg lo so st) sz)) 0 0 (va_A (w2 a cI (nI T) (nI L) op fa fb fc inp out rg lo so st) sz) := by
  refine n_met (by decide) (Nat.le_of_ble_eq_true rfl) ?_
  intro p e s m below meth c ls SF hr hlocks hnm hsz hK hP hD hA hl
  subst hsz
  have hS : va_S (va_A (w2 a cI (nI T) (nI L) op fa fb fc inp out rg lo so st) s.heap.size) s.heap s.heap [] := va_S.rf
  generalize va_A (w2 a cI (nI T) (nI L) op fa fb fc inp out rg lo so st) s.heap.size = A at hD hA hS ⊢
  obtain ⟨hx, hb, hml, hown, hts⟩ := id SF
  have hown : s.vm.findClass RX2 = some m.cls := hown
  have SF : CallFix p m c cX2_run 3 s _ lw_all RX2 := SF
  have hl : lv_has ls 3 [(0, .ref (a 0))] := hl
  refine lv_iconst (v := 0) hx hb dX2_run_0 (by decide) ?_
  refine lv_istore_n (lv' := [(1, .int 0), (0, .ref (a 0))]) hx hb dX2_run_1 rfl hl (by decide) rfl (fun ls hl => ?_)
  refine lpX2_run1 SF hK T L op fa fb fc inp out rg lo so st ?_ 16 0 rfl _ _ _ (by rw [zr_0]; exact hP) (by rw [zr_0]; exact hD) hS hl
  intro H locs ls hP hD hS hl
  refine lv_iconst (v := 0) hx hb dX2_run_21 (by decide) ?_
  refine lv_istore_n (lv' := [(1, .int 0), (0, .ref (a 0))]) hx hb dX2_run_22 rfl hl (by decide) rfl (fun ls hl => ?_)
  refine lv_iconst (v := 0) hx hb dX2_run_23 (by decide) ?_
  refine lv_istore_n (lv' := [(2, .int 0), (1, .int 0), (0, .ref (a 0))]) hx hb dX2_run_24 rfl hl (by decide) rfl (fun ls hl => ?_)
  refine lpX2_run2 SF hK hA T L hT hL op fa fb fc inp hop ?_ T 0 (by omega) _ _ _ _ _ _ _ _ (finR_0 _ out rg lo so st) hP hD hS hl
  intro out1 rg1 lo1 so1 st1 H locs ls hF hP hD hS hl
  refine lv_iload_n hx hb dX2_run_57 rfl (lv_at hl 1 rfl) ?_
  exact W.iret (v := nI (cnt (op, fa, fb, fc, inp, L) T)) hx hb hr (fun t9 h9 hW9 => ⟨⟨_, (out1, rg1, lo1, so1, st1), rfl, ⟨rfl, hF⟩, by rw [h9]; exact hP, va_K.moved hW9.alike hK, hD⟩, hS.F h9⟩) hS.2.2 dX2_run_58
end
section
/-! contracts: the making of the two machines -/
/-- the number of threads that is kept -/
def th0 (k : Int32) : Int32 := if k < 1 then 1 else if 8 < k then 8 else k
theorem th0_n (k : Int32) : ∃ T : Nat, 1 ≤ T ∧ T ≤ 8 ∧ th0 k = nI T := by
  unfold th0
  by_cases h1 : k < 1
  · exact ⟨1, by omega, by omega, by rw [if_pos h1]; rfl⟩
  · rw [if_neg h1]
    by_cases h2 : 8 < k
    · exact ⟨8, by omega, by omega, by rw [if_pos h2]; rfl⟩
    · rw [if_neg h2]
      have e1 : (1 : Int32).toInt = 1 := by decide
      have e8 : (8 : Int32).toInt = 8 := by decide
      have g1 := Int32.le_iff_toInt_le.mp (Int32.not_lt.mp h1)
      have g2 := Int32.le_iff_toInt_le.mp (Int32.not_lt.mp h2)
      have e0 : (0 : Int32).toInt = 0 := by decide
      have hn : ¬ k < 0 := fun q => by have := Int32.lt_iff_toInt_lt.mp q; omega
      obtain ⟨j, hj, e⟩ := nI_of hn
      have ej := nI_toInt hj
      rw [← e] at ej
      exact ⟨j, by omega, by omega, e⟩
section Making
variable {p : Program} {l : Launch} {e : Env} {R : Room} {s : State} {m : MethodId} {args : Array Value} {below : List Frame} {meth : Method} {c : Code} {Q : State → Prop} {A : Nat → Prop} {dC : Nat → ClassId} {dI : Nat → Nat → Nat}
set_option maxHeartbeats 4000000 in
set_option maxRecDepth 100000 in
theorem lpX1_init (SF : CallFix p m c cX1_init 2 s args lw_all RX1) (hin : meth.name = "<init>") (hK : va_K (dC, dI) vwCl [] s) (hA : ∀ q : Nat, s.heap.size ≤ q → A q) (h0 : Nat) (v x : Int32) (H : Heap) (locs : List Loc) (ls : Array Slot) (hP : va_P (dC, dI) vwCl [(h0, .inr (0, [.int 0, .int 0, .null, .null, .null, .null, .null, .null, .null, .null, .null, .null, .null, .null, .int 0, .int 0, .null, .null, .null]))] H) (hD : va_D A [(h0, .inr (0, [.int 0, .int 0, .null, .null, .null, .null, .null, .null, .null, .null, .null, .null, .null, .null, .int 0, .int 0, .null, .null, .null]))]) (hS : va_S A s.heap H locs) (hl : lv_has ls 2 [(0, .ref h0), (1, .int x)])
    (kk : ∀ (a : Nat → Nat) (cI cJ : ClassId) (H : Heap) (locs : List Loc) (ls : Array Slot), a 0 = h0 → va_K (dC, dI) vwCl (tyL cI cJ) s → va_P (dC, dI) vwCl (w1 a cI cJ v 0 (fun _ => 0) (fun _ => 0) (fun _ => 0) (fun _ => 0) (fun _ => 0) (fun _ => 0) (fun _ => 0) (fun _ => 0) (fun _ => 0) (fun _ => 0) (fun _ => 0) (fun _ => 0) 0 0 (fun _ => 0) (fun _ => 0) (fun _ => 0)) H → va_D A (w1 a cI cJ v 0 (fun _ => 0) (fun _ => 0) (fun _ => 0) (fun _ => 0) (fun _ => 0) (fun _ => 0) (fun _ => 0) (fun _ => 0) (fun _ => 0) (fun _ => 0) (fun _ => 0) (fun _ => 0) 0 0 (fun _ => 0) (fun _ => 0) (fun _ => 0)) → va_S A s.heap H locs → W p l e ({ frames := 1, cells := 15, slots := 378, locals := 12 } : Room) s m args below meth c H locs 15 378 Q (F0 m 149 ls [])) :
    W p l e ({ frames := 1, cells := 15, slots := 378, locals := 12 } : Room) s m args below meth c H locs 0 0 Q (F0 m 26 ls [.int v, .ref h0]) := by
  obtain ⟨hx, hb, hml, hown, hts⟩ := id SF
  refine va_putF (D := (dC, dI)) (ci := 0) (v := .int v) (ty := .int) (C := RX1) (T := TX1) (N := 19) hx hb hts in_X1 tyX1 tyX1_ok nmX1 hown hK hP hD hS 0 rfl rfl 0 (by decide) (hts _ q26) (fun _ h9 => h9) rfl hin rfl (by decide +kernel) rfl rfl (Nat.le_of_ble_eq_true rfl) dX1_init_26 (fun H locs hP hD hS => ?_)
  have hP : va_P (dC, dI) vwCl [(h0, .inr (0, [.int v, .int 0, .null, .null, .null, .null, .null, .null, .null, .null, .null, .null, .null, .null, .int 0, .int 0, .null, .null, .null]))] H := hP
  have hD : va_D A [(h0, .inr (0, [.int v, .int 0, .null, .null, .null, .null, .null, .null, .null, .null, .null, .null, .null, .null, .int 0, .int 0, .null, .null, .null]))] := hD
  refine lv_aload_n hx hb dX1_init_29 rfl (lv_at hl 0 rfl) ?_
  refine lv_bipush (v := 32) hx hb dX1_init_30 (by decide) ?_
  refine va_newa (atype := .int) (a0 := (32, .inl (fun _ => 0))) (N' := 32) hx hb (hts _ q84) rfl hK hP hD hS hA (fun _ => rfl) (by decide) (by decide) (by decide) (Nat.le_of_ble_eq_true rfl) (Nat.le_of_ble_eq_true rfl) dX1_init_32 (fun q1 c1 H hK hP hD hS => ?_)
  have hP : va_P (dC, dI) vwCl [(h0, .inr (0, [.int v, .int 0, .null, .null, .null, .null, .null, .null, .null, .null, .null, .null, .null, .null, .int 0, .int 0, .null, .null, .null])), (q1, .inl (c1, 32, .inl (fun _ => 0)))] H := hP
  have hD : va_D A [(h0, .inr (0, [.int v, .int 0, .null, .null, .null, .null, .null, .null, .null, .null, .null, .null, .null, .null, .int 0, .int 0, .null, .null, .null])), (q1, .inl (c1, 32, .inl (fun _ => 0)))] := hD
  have hK : va_K (dC, dI) vwCl [(c1, .int)] s := hK
  refine va_putF (D := (dC, dI)) (ci := 0) (v := .ref q1) (ty := .array .int) (C := RX1) (T := TX1) (N := 19) hx hb hts in_X1 tyX1 tyX1_ok nmX1 hown hK hP hD hS 0 rfl rfl 2 (by decide) (hts _ q28) (fun _ h9 => h9) rfl hin rfl (by decide +kernel) rfl rfl (Nat.le_of_ble_eq_true rfl) dX1_init_34 (fun H locs hP hD hS => ?_)
  have hP : va_P (dC, dI) vwCl [(h0, .inr (0, [.int v, .int 0, .ref q1, .null, .null, .null, .null, .null, .null, .null, .null, .null, .null, .null, .int 0, .int 0, .null, .null, .null])), (q1, .inl (c1, 32, .inl (fun _ => 0)))] H := hP
  have hD : va_D A [(h0, .inr (0, [.int v, .int 0, .ref q1, .null, .null, .null, .null, .null, .null, .null, .null, .null, .null, .null, .int 0, .int 0, .null, .null, .null])), (q1, .inl (c1, 32, .inl (fun _ => 0)))] := hD
  refine lv_aload_n hx hb dX1_init_37 rfl (lv_at hl 0 rfl) ?_
  refine lv_bipush (v := 32) hx hb dX1_init_38 (by decide) ?_
  refine va_newa (atype := .int) (a0 := (32, .inl (fun _ => 0))) (N' := 32) hx hb (hts _ q84) rfl hK hP hD hS hA (fun _ => rfl) (by decide) (by decide) (by decide) (Nat.le_of_ble_eq_true rfl) (Nat.le_of_ble_eq_true rfl) dX1_init_40 (fun q2 c2 H hK hP hD hS => ?_)
  have hP : va_P (dC, dI) vwCl [(h0, .inr (0, [.int v, .int 0, .ref q1, .null, .null, .null, .null, .null, .null, .null, .null, .null, .null, .null, .int 0, .int 0, .null, .null, .null])), (q1, .inl (c1, 32, .inl (fun _ => 0))), (q2, .inl (c2, 32, .inl (fun _ => 0)))] H := hP
  have hD : va_D A [(h0, .inr (0, [.int v, .int 0, .ref q1, .null, .null, .null, .null, .null, .null, .null, .null, .null, .null, .null, .int 0, .int 0, .null, .null, .null])), (q1, .inl (c1, 32, .inl (fun _ => 0))), (q2, .inl (c2, 32, .inl (fun _ => 0)))] := hD
  have hK : va_K (dC, dI) vwCl [(c1, .int), (c2, .int)] s := hK
  refine va_putF (D := (dC, dI)) (ci := 0) (v := .ref q2) (ty := .array .int) (C := RX1) (T := TX1) (N := 19) hx hb hts in_X1 tyX1 tyX1_ok nmX1 hown hK hP hD hS 0 rfl rfl 3 (by decide) (hts _ q29) (fun _ h9 => h9) rfl hin rfl (by decide +kernel) rfl rfl (Nat.le_of_ble_eq_true rfl) dX1_init_42 (fun H locs hP hD hS => ?_)
  have hP : va_P (dC, dI) vwCl [(h0, .inr (0, [.int v, .int 0, .ref q1, .ref q2, .null, .null, .null, .null, .null, .null, .null, .null, .null, .null, .int 0, .int 0, .null, .null, .null])), (q1, .inl (c1, 32, .inl (fun _ => 0))), (q2, .inl (c2, 32, .inl (fun _ => 0)))] H := hP
  have hD : va_D A [(h0, .inr (0, [.int v, .int 0, .ref q1, .ref q2, .null, .null, .null, .null, .null, .null, .null, .null, .null, .null, .int 0, .int 0, .null, .null, .null])), (q1, .inl (c1, 32, .inl (fun _ => 0))), (q2, .inl (c2, 32, .inl (fun _ => 0)))] := hD
  refine lv_aload_n hx hb dX1_init_45 rfl (lv_at hl 0 rfl) ?_
  refine lv_bipush (v := 32) hx hb dX1_init_46 (by decide) ?_
  refine va_newa (atype := .int) (a0 := (32, .inl (fun _ => 0))) (N' := 32) hx hb (hts _ q84) rfl hK hP hD hS hA (fun _ => rfl) (by decide) (by decide) (by decide) (Nat.le_of_ble_eq_true rfl) (Nat.le_of_ble_eq_true rfl) dX1_init_48 (fun q3 c3 H hK hP hD hS => ?_)
  have hP : va_P (dC, dI) vwCl [(h0, .inr (0, [.int v, .int 0, .ref q1, .ref q2, .null, .null, .null, .null, .null, .null, .null, .null, .null, .null, .int 0, .int 0, .null, .null, .null])), (q1, .inl (c1, 32, .inl (fun _ => 0))), (q2, .inl (c2, 32, .inl (fun _ => 0))), (q3, .inl (c3, 32, .inl (fun _ => 0)))] H := hP
  have hD : va_D A [(h0, .inr (0, [.int v, .int 0, .ref q1, .ref q2, .null, .null, .null, .null, .null, .null, .null, .null, .null, .null, .int 0, .int 0, .null, .null, .null])), (q1, .inl (c1, 32, .inl (fun _ => 0))), (q2, .inl (c2, 32, .inl (fun _ => 0))), (q3, .inl (c3, 32, .inl (fun _ => 0)))] := hD
  have hK : va_K (dC, dI) vwCl [(c1, .int), (c2, .int), (c3, .int)] s := hK
  refine va_putF (D := (dC, dI)) (ci := 0) (v := .ref q3) (ty := .array .int) (C := RX1) (T := TX1) (N := 19) hx hb hts in_X1 tyX1 tyX1_ok nmX1 hown hK hP hD hS 0 rfl rfl 4 (by decide) (hts _ q30) (fun _ h9 => h9) rfl hin rfl (by decide +kernel) rfl rfl (Nat.le_of_ble_eq_true rfl) dX1_init_50 (fun H locs hP hD hS => ?_)
  have hP : va_P (dC, dI) vwCl [(h0, .inr (0, [.int v, .int 0, .ref q1, .ref q2, .ref q3, .null, .null, .null, .null, .null, .null, .null, .null, .null, .int 0, .int 0, .null, .null, .null])), (q1, .inl (c1, 32, .inl (fun _ => 0))), (q2, .inl (c2, 32, .inl (fun _ => 0))), (q3, .inl (c3, 32, .inl (fun _ => 0)))] H := hP
  have hD : va_D A [(h0, .inr (0, [.int v, .int 0, .ref q1, .ref q2, .ref q3, .null, .null, .null, .null, .null, .null, .null, .null, .null, .int 0, .int 0, .null, .null, .null])), (q1, .inl (c1, 32, .inl (fun _ => 0))), (q2, .inl (c2, 32, .inl (fun _ => 0))), (q3, .inl (c3, 32, .inl (fun _ => 0)))] := hD
  refine lv_aload_n hx hb dX1_init_53 rfl (lv_at hl 0 rfl) ?_
  refine lv_bipush (v := 32) hx hb dX1_init_54 (by decide) ?_
  refine va_newa (atype := .int) (a0 := (32, .inl (fun _ => 0))) (N' := 32) hx hb (hts _ q84) rfl hK hP hD hS hA (fun _ => rfl) (by decide) (by decide) (by decide) (Nat.le_of_ble_eq_true rfl) (Nat.le_of_ble_eq_true rfl) dX1_init_56 (fun q4 c4 H hK hP hD hS => ?_)
  have hP : va_P (dC, dI) vwCl [(h0, .inr (0, [.int v, .int 0, .ref q1, .ref q2, .ref q3, .null, .null, .null, .null, .null, .null, .null, .null, .null, .int 0, .int 0, .null, .null, .null])), (q1, .inl (c1, 32, .inl (fun _ => 0))), (q2, .inl (c2, 32, .inl (fun _ => 0))), (q3, .inl (c3, 32, .inl (fun _ => 0))), (q4, .inl (c4, 32, .inl (fun _ => 0)))] H := hP
  have hD : va_D A [(h0, .inr (0, [.int v, .int 0, .ref q1, .ref q2, .ref q3, .null, .null, .null, .null, .null, .null, .null, .null, .null, .int 0, .int 0, .null, .null, .null])), (q1, .inl (c1, 32, .inl (fun _ => 0))), (q2, .inl (c2, 32, .inl (fun _ => 0))), (q3, .inl (c3, 32, .inl (fun _ => 0))), (q4, .inl (c4, 32, .inl (fun _ => 0)))] := hD
  have hK : va_K (dC, dI) vwCl [(c1, .int), (c2, .int), (c3, .int), (c4, .int)] s := hK
  refine va_putF (D := (dC, dI)) (ci := 0) (v := .ref q4) (ty := .array .int) (C := RX1) (T := TX1) (N := 19) hx hb hts in_X1 tyX1 tyX1_ok nmX1 hown hK hP hD hS 0 rfl rfl 5 (by decide) (hts _ q31) (fun _ h9 => h9) rfl hin rfl (by decide +kernel) rfl rfl (Nat.le_of_ble_eq_true rfl) dX1_init_58 (fun H locs hP hD hS => ?_)
  have hP : va_P (dC, dI) vwCl [(h0, .inr (0, [.int v, .int 0, .ref q1, .ref q2, .ref q3, .ref q4, .null, .null, .null, .null, .null, .null, .null, .null, .int 0, .int 0, .null, .null, .null])), (q1, .inl (c1, 32, .inl (fun _ => 0))), (q2, .inl (c2, 32, .inl (fun _ => 0))), (q3, .inl (c3, 32, .inl (fun _ => 0))), (q4, .inl (c4, 32, .inl (fun _ => 0)))] H := hP
  have hD : va_D A [(h0, .inr (0, [.int v, .int 0, .ref q1, .ref q2, .ref q3, .ref q4, .null, .null, .null, .null, .null, .null, .null, .null, .int 0, .int 0, .null, .null, .null])), (q1, .inl (c1, 32, .inl (fun _ => 0))), (q2, .inl (c2, 32, .inl (fun _ => 0))), (q3, .inl (c3, 32, .inl (fun _ => 0))), (q4, .inl (c4, 32, .inl (fun _ => 0)))] := hD
  refine lv_aload_n hx hb dX1_init_61 rfl (lv_at hl 0 rfl) ?_
  refine lv_bipush (v := 16) hx hb dX1_init_62 (by decide) ?_
  refine va_newa (atype := .int) (a0 := (16, .inl (fun _ => 0))) (N' := 16) hx hb (hts _ q84) rfl hK hP hD hS hA (fun _ => rfl) (by decide) (by decide) (by decide) (Nat.le_of_ble_eq_true rfl) (Nat.le_of_ble_eq_true rfl) dX1_init_64 (fun q5 c5 H hK hP hD hS => ?_)
  have hP : va_P (dC, dI) vwCl [(h0, .inr (0, [.int v, .int 0, .ref q1, .ref q2, .ref q3, .ref q4, .null, .null, .null, .null, .null, .null, .null, .null, .int 0, .int 0, .null, .null, .null])), (q1, .inl (c1, 32, .inl (fun _ => 0))), (q2, .inl (c2, 32, .inl (fun _ => 0))), (q3, .inl (c3, 32, .inl (fun _ => 0))), (q4, .inl (c4, 32, .inl (fun _ => 0))), (q5, .inl (c5, 16, .inl (fun _ => 0)))] H := hP
  have hD : va_D A [(h0, .inr (0, [.int v, .int 0, .ref q1, .ref q2, .ref q3, .ref q4, .null, .null, .null, .null, .null, .null, .null, .null, .int 0, .int 0, .null, .null, .null])), (q1, .inl (c1, 32, .inl (fun _ => 0))), (q2, .inl (c2, 32, .inl (fun _ => 0))), (q3, .inl (c3, 32, .inl (fun _ => 0))), (q4, .inl (c4, 32, .inl (fun _ => 0))), (q5, .inl (c5, 16, .inl (fun _ => 0)))] := hD
  have hK : va_K (dC, dI) vwCl [(c1, .int), (c2, .int), (c3, .int), (c4, .int), (c5, .int)] s := hK
  refine va_putF (D := (dC, dI)) (ci := 0) (v := .ref q5) (ty := .array .int) (C := RX1) (T := TX1) (N := 19) hx hb hts in_X1 tyX1 tyX1_ok nmX1 hown hK hP hD hS 0 rfl rfl 6 (by decide) (hts _ q32) (fun _ h9 => h9) rfl hin rfl (by decide +kernel) rfl rfl (Nat.le_of_ble_eq_true rfl) dX1_init_66 (fun H locs hP hD hS => ?_)
  have hP : va_P (dC, dI) vwCl [(h0, .inr (0, [.int v, .int 0, .ref q1, .ref q2, .ref q3, .ref q4, .ref q5, .null, .null, .null, .null, .null, .null, .null, .int 0, .int 0, .null, .null, .null])), (q1, .inl (c1, 32, .inl (fun _ => 0))), (q2, .inl (c2, 32, .inl (fun _ => 0))), (q3, .inl (c3, 32, .inl (fun _ => 0))), (q4, .inl (c4, 32, .inl (fun _ => 0))), (q5, .inl (c5, 16, .inl (fun _ => 0)))] H := hP
  have hD : va_D A [(h0, .inr (0, [.int v, .int 0, .ref q1, .ref q2, .ref q3, .ref q4, .ref q5, .null, .null, .null, .null, .null, .null, .null, .int 0, .int 0, .null, .null, .null])), (q1, .inl (c1, 32, .inl (fun _ => 0))), (q2, .inl (c2, 32, .inl (fun _ => 0))), (q3, .inl (c3, 32, .inl (fun _ => 0))), (q4, .inl (c4, 32, .inl (fun _ => 0))), (q5, .inl (c5, 16, .inl (fun _ => 0)))] := hD
  refine lv_aload_n hx hb dX1_init_69 rfl (lv_at hl 0 rfl) ?_
  refine lv_bipush (v := 16) hx hb dX1_init_70 (by decide) ?_
  refine va_newa (atype := .int) (a0 := (16, .inl (fun _ => 0))) (N' := 16) hx hb (hts _ q84) rfl hK hP hD hS hA (fun _ => rfl) (by decide) (by decide) (by decide) (Nat.le_of_ble_eq_true rfl) (Nat.le_of_ble_eq_true rfl) dX1_init_72 (fun q6 c6 H hK hP hD hS => ?_)
  have hP : va_P (dC, dI) vwCl [(h0, .inr (0, [.int v, .int 0, .ref q1, .ref q2, .ref q3, .ref q4, .ref q5, .null, .null, .null, .null, .null, .null, .null, .int 0, .int 0, .null, .null, .null])), (q1, .inl (c1, 32, .inl (fun _ => 0))), (q2, .inl (c2, 32, .inl (fun _ => 0))), (q3, .inl (c3, 32, .inl (fun _ => 0))), (q4, .inl (c4, 32, .inl (fun _ => 0))), (q5, .inl (c5, 16, .inl (fun _ => 0))), (q6, .inl (c6, 16, .inl (fun _ => 0)))] H := hP
  have hD : va_D A [(h0, .inr (0, [.int v, .int 0, .ref q1, .ref q2, .ref q3, .ref q4, .ref q5, .null, .null, .null, .null, .null, .null, .null, .int 0, .int 0, .null, .null, .null])), (q1, .inl (c1, 32, .inl (fun _ => 0))), (q2, .inl (c2, 32, .inl (fun _ => 0))), (q3, .inl (c3, 32, .inl (fun _ => 0))), (q4, .inl (c4, 32, .inl (fun _ => 0))), (q5, .inl (c5, 16, .inl (fun _ => 0))), (q6, .inl (c6, 16, .inl (fun _ => 0)))] := hD
  have hK : va_K (dC, dI) vwCl [(c1, .int), (c2, .int), (c3, .int), (c4, .int), (c5, .int), (c6, .int)] s := hK
  refine va_putF (D := (dC, dI)) (ci := 0) (v := .ref q6) (ty := .array .int) (C := RX1) (T := TX1) (N := 19) hx hb hts in_X1 tyX1 tyX1_ok nmX1 hown hK hP hD hS 0 rfl rfl 7 (by decide) (hts _ q33) (fun _ h9 => h9) rfl hin rfl (by decide +kernel) rfl rfl (Nat.le_of_ble_eq_true rfl) dX1_init_74 (fun H locs hP hD hS => ?_)
  have hP : va_P (dC, dI) vwCl [(h0, .inr (0, [.int v, .int 0, .ref q1, .ref q2, .ref q3, .ref q4, .ref q5, .ref q6, .null, .null, .null, .null, .null, .null, .int 0, .int 0, .null, .null, .null])), (q1, .inl (c1, 32, .inl (fun _ => 0))), (q2, .inl (c2, 32, .inl (fun _ => 0))), (q3, .inl (c3, 32, .inl (fun _ => 0))), (q4, .inl (c4, 32, .inl (fun _ => 0))), (q5, .inl (c5, 16, .inl (fun _ => 0))), (q6, .inl (c6, 16, .inl (fun _ => 0)))] H := hP
  have hD : va_D A [(h0, .inr (0, [.int v, .int 0, .ref q1, .ref q2, .ref q3, .ref q4, .ref q5, .ref q6, .null, .null, .null, .null, .null, .null, .int 0, .int 0, .null, .null, .null])), (q1, .inl (c1, 32, .inl (fun _ => 0))), (q2, .inl (c2, 32, .inl (fun _ => 0))), (q3, .inl (c3, 32, .inl (fun _ => 0))), (q4, .inl (c4, 32, .inl (fun _ => 0))), (q5, .inl (c5, 16, .inl (fun _ => 0))), (q6, .inl (c6, 16, .inl (fun _ => 0)))] := hD
  refine lv_aload_n hx hb dX1_init_77 rfl (lv_at hl 0 rfl) ?_
  refine lv_bipush (v := 32) hx hb dX1_init_78 (by decide) ?_
  refine va_newa (atype := .int) (a0 := (32, .inl (fun _ => 0))) (N' := 32) hx hb (hts _ q84) rfl hK hP hD hS hA (fun _ => rfl) (by decide) (by decide) (by decide) (Nat.le_of_ble_eq_true rfl) (Nat.le_of_ble_eq_true rfl) dX1_init_80 (fun q7 c7 H hK hP hD hS => ?_)
  have hP : va_P (dC, dI) vwCl [(h0, .inr (0, [.int v, .int 0, .ref q1, .ref q2, .ref q3, .ref q4, .ref q5, .ref q6, .null, .null, .null, .null, .null, .null, .int 0, .int 0, .null, .null, .null])), (q1, .inl (c1, 32, .inl (fun _ => 0))), (q2, .inl (c2, 32, .inl (fun _ => 0))), (q3, .inl (c3, 32, .inl (fun _ => 0))), (q4, .inl (c4, 32, .inl (fun _ => 0))), (q5, .inl (c5, 16, .inl (fun _ => 0))), (q6, .inl (c6, 16, .inl (fun _ => 0))), (q7, .inl (c7, 32, .inl (fun _ => 0)))] H := hP
  have hD : va_D A [(h0, .inr (0, [.int v, .int 0, .ref q1, .ref q2, .ref q3, .ref q4, .ref q5, .ref q6, .null, .null, .null, .null, .null, .null, .int 0, .int 0, .null, .null, .null])), (q1, .inl (c1, 32, .inl (fun _ => 0))), (q2, .inl (c2, 32, .inl (fun _ => 0))), (q3, .inl (c3, 32, .inl (fun _ => 0))), (q4, .inl (c4, 32, .inl (fun _ => 0))), (q5, .inl (c5, 16, .inl (fun _ => 0))), (q6, .inl (c6, 16, .inl (fun _ => 0))), (q7, .inl (c7, 32, .inl (fun _ => 0)))] := hD
  have hK : va_K (dC, dI) vwCl [(c1, .int), (c2, .int), (c3, .int), (c4, .int), (c5, .int), (c6, .int), (c7, .int)] s := hK
  refine va_putF (D := (dC, dI)) (ci := 0) (v := .ref q7) (ty := .array .int) (C := RX1) (T := TX1) (N := 19) hx hb hts in_X1 tyX1 tyX1_ok nmX1 hown hK hP hD hS 0 rfl rfl 8 (by decide) (hts _ q34) (fun _ h9 => h9) rfl hin rfl (by decide +kernel) rfl rfl (Nat.le_of_ble_eq_true rfl) dX1_init_82 (fun H locs hP hD hS => ?_)
  have hP : va_P (dC, dI) vwCl [(h0, .inr (0, [.int v, .int 0, .ref q1, .ref q2, .ref q3, .ref q4, .ref q5, .ref q6, .ref q7, .null, .null, .null, .null, .null, .int 0, .int 0, .null, .null, .null])), (q1, .inl (c1, 32, .inl (fun _ => 0))), (q2, .inl (c2, 32, .inl (fun _ => 0))), (q3, .inl (c3, 32, .inl (fun _ => 0))), (q4, .inl (c4, 32, .inl (fun _ => 0))), (q5, .inl (c5, 16, .inl (fun _ => 0))), (q6, .inl (c6, 16, .inl (fun _ => 0))), (q7, .inl (c7, 32, .inl (fun _ => 0)))] H := hP
  have hD : va_D A [(h0, .inr (0, [.int v, .int 0, .ref q1, .ref q2, .ref q3, .ref q4, .ref q5, .ref q6, .ref q7, .null, .null, .null, .null, .null, .int 0, .int 0, .null, .null, .null])), (q1, .inl (c1, 32, .inl (fun _ => 0))), (q2, .inl (c2, 32, .inl (fun _ => 0))), (q3, .inl (c3, 32, .inl (fun _ => 0))), (q4, .inl (c4, 32, .inl (fun _ => 0))), (q5, .inl (c5, 16, .inl (fun _ => 0))), (q6, .inl (c6, 16, .inl (fun _ => 0))), (q7, .inl (c7, 32, .inl (fun _ => 0)))] := hD
  refine lv_aload_n hx hb dX1_init_85 rfl (lv_at hl 0 rfl) ?_
  refine lv_bipush (v := 8) hx hb dX1_init_86 (by decide) ?_
  refine va_newa (atype := .int) (a0 := (8, .inl (fun _ => 0))) (N' := 8) hx hb (hts _ q84) rfl hK hP hD hS hA (fun _ => rfl) (by decide) (by decide) (by decide) (Nat.le_of_ble_eq_true rfl) (Nat.le_of_ble_eq_true rfl) dX1_init_88 (fun q8 c8 H hK hP hD hS => ?_)
  have hP : va_P (dC, dI) vwCl [(h0, .inr (0, [.int v, .int 0, .ref q1, .ref q2, .ref q3, .ref q4, .ref q5, .ref q6, .ref q7, .null, .null, .null, .null, .null, .int 0, .int 0, .null, .null, .null])), (q1, .inl (c1, 32, .inl (fun _ => 0))), (q2, .inl (c2, 32, .inl (fun _ => 0))), (q3, .inl (c3, 32, .inl (fun _ => 0))), (q4, .inl (c4, 32, .inl (fun _ => 0))), (q5, .inl (c5, 16, .inl (fun _ => 0))), (q6, .inl (c6, 16, .inl (fun _ => 0))), (q7, .inl (c7, 32, .inl (fun _ => 0))), (q8, .inl (c8, 8, .inl (fun _ => 0)))] H := hP
  have hD : va_D A [(h0, .inr (0, [.int v, .int 0, .ref q1, .ref q2, .ref q3, .ref q4, .ref q5, .ref q6, .ref q7, .null, .null, .null, .null, .null, .int 0, .int 0, .null, .null, .null])), (q1, .inl (c1, 32, .inl (fun _ => 0))), (q2, .inl (c2, 32, .inl (fun _ => 0))), (q3, .inl (c3, 32, .inl (fun _ => 0))), (q4, .inl (c4, 32, .inl (fun _ => 0))), (q5, .inl (c5, 16, .inl (fun _ => 0))), (q6, .inl (c6, 16, .inl (fun _ => 0))), (q7, .inl (c7, 32, .inl (fun _ => 0))), (q8, .inl (c8, 8, .inl (fun _ => 0)))] := hD
  have hK : va_K (dC, dI) vwCl [(c1, .int), (c2, .int), (c3, .int), (c4, .int), (c5, .int), (c6, .int), (c7, .int), (c8, .int)] s := hK
  refine va_putF (D := (dC, dI)) (ci := 0) (v := .ref q8) (ty := .array .int) (C := RX1) (T := TX1) (N := 19) hx hb hts in_X1 tyX1 tyX1_ok nmX1 hown hK hP hD hS 0 rfl rfl 9 (by decide) (hts _ q35) (fun _ h9 => h9) rfl hin rfl (by decide +kernel) rfl rfl (Nat.le_of_ble_eq_true rfl) dX1_init_90 (fun H locs hP hD hS => ?_)
  have hP : va_P (dC, dI) vwCl [(h0, .inr (0, [.int v, .int 0, .ref q1, .ref q2, .ref q3, .ref q4, .ref q5, .ref q6, .ref q7, .ref q8, .null, .null, .null, .null, .int 0, .int 0, .null, .null, .null])), (q1, .inl (c1, 32, .inl (fun _ => 0))), (q2, .inl (c2, 32, .inl (fun _ => 0))), (q3, .inl (c3, 32, .inl (fun _ => 0))), (q4, .inl (c4, 32, .inl (fun _ => 0))), (q5, .inl (c5, 16, .inl (fun _ => 0))), (q6, .inl (c6, 16, .inl (fun _ => 0))), (q7, .inl (c7, 32, .inl (fun _ => 0))), (q8, .inl (c8, 8, .inl (fun _ => 0)))] H := hP
  have hD : va_D A [(h0, .inr (0, [.int v, .int 0, .ref q1, .ref q2, .ref q3, .ref q4, .ref q5, .ref q6, .ref q7, .ref q8, .null, .null, .null, .null, .int 0, .int 0, .null, .null, .null])), (q1, .inl (c1, 32, .inl (fun _ => 0))), (q2, .inl (c2, 32, .inl (fun _ => 0))), (q3, .inl (c3, 32, .inl (fun _ => 0))), (q4, .inl (c4, 32, .inl (fun _ => 0))), (q5, .inl (c5, 16, .inl (fun _ => 0))), (q6, .inl (c6, 16, .inl (fun _ => 0))), (q7, .inl (c7, 32, .inl (fun _ => 0))), (q8, .inl (c8, 8, .inl (fun _ => 0)))] := hD
  refine lv_aload_n hx hb dX1_init_93 rfl (lv_at hl 0 rfl) ?_
  refine lv_bipush (v := 8) hx hb dX1_init_94 (by decide) ?_
  refine va_newa (atype := .int) (a0 := (8, .inl (fun _ => 0))) (N' := 8) hx hb (hts _ q84) rfl hK hP hD hS hA (fun _ => rfl) (by decide) (by decide) (by decide) (Nat.le_of_ble_eq_true rfl) (Nat.le_of_ble_eq_true rfl) dX1_init_96 (fun q9 c9 H hK hP hD hS => ?_)
  have hP : va_P (dC, dI) vwCl [(h0, .inr (0, [.int v, .int 0, .ref q1, .ref q2, .ref q3, .ref q4, .ref q5, .ref q6, .ref q7, .ref q8, .null, .null, .null, .null, .int 0, .int 0, .null, .null, .null])), (q1, .inl (c1, 32, .inl (fun _ => 0))), (q2, .inl (c2, 32, .inl (fun _ => 0))), (q3, .inl (c3, 32, .inl (fun _ => 0))), (q4, .inl (c4, 32, .inl (fun _ => 0))), (q5, .inl (c5, 16, .inl (fun _ => 0))), (q6, .inl (c6, 16, .inl (fun _ => 0))), (q7, .inl (c7, 32, .inl (fun _ => 0))), (q8, .inl (c8, 8, .inl (fun _ => 0))), (q9, .inl (c9, 8, .inl (fun _ => 0)))] H := hP
  have hD : va_D A [(h0, .inr (0, [.int v, .int 0, .ref q1, .ref q2, .ref q3, .ref q4, .ref q5, .ref q6, .ref q7, .ref q8, .null, .null, .null, .null, .int 0, .int 0, .null, .null, .null])), (q1, .inl (c1, 32, .inl (fun _ => 0))), (q2, .inl (c2, 32, .inl (fun _ => 0))), (q3, .inl (c3, 32, .inl (fun _ => 0))), (q4, .inl (c4, 32, .inl (fun _ => 0))), (q5, .inl (c5, 16, .inl (fun _ => 0))), (q6, .inl (c6, 16, .inl (fun _ => 0))), (q7, .inl (c7, 32, .inl (fun _ => 0))), (q8, .inl (c8, 8, .inl (fun _ => 0))), (q9, .inl (c9, 8, .inl (fun _ => 0)))] := hD
  have hK : va_K (dC, dI) vwCl [(c1, .int), (c2, .int), (c3, .int), (c4, .int), (c5, .int), (c6, .int), (c7, .int), (c8, .int), (c9, .int)] s := hK
  refine va_putF (D := (dC, dI)) (ci := 0) (v := .ref q9) (ty := .array .int) (C := RX1) (T := TX1) (N := 19) hx hb hts in_X1 tyX1 tyX1_ok nmX1 hown hK hP hD hS 0 rfl rfl 10 (by decide) (hts _ q36) (fun _ h9 => h9) rfl hin rfl (by decide +kernel) rfl rfl (Nat.le_of_ble_eq_true rfl) dX1_init_98 (fun H locs hP hD hS => ?_)
  have hP : va_P (dC, dI) vwCl [(h0, .inr (0, [.int v, .int 0, .ref q1, .ref q2, .ref q3, .ref q4, .ref q5, .ref q6, .ref q7, .ref q8, .ref q9, .null, .null, .null, .int 0, .int 0, .null, .null, .null])), (q1, .inl (c1, 32, .inl (fun _ => 0))), (q2, .inl (c2, 32, .inl (fun _ => 0))), (q3, .inl (c3, 32, .inl (fun _ => 0))), (q4, .inl (c4, 32, .inl (fun _ => 0))), (q5, .inl (c5, 16, .inl (fun _ => 0))), (q6, .inl (c6, 16, .inl (fun _ => 0))), (q7, .inl (c7, 32, .inl (fun _ => 0))), (q8, .inl (c8, 8, .inl (fun _ => 0))), (q9, .inl (c9, 8, .inl (fun _ => 0)))] H := hP
  have hD : va_D A [(h0, .inr (0, [.int v, .int 0, .ref q1, .ref q2, .ref q3, .ref q4, .ref q5, .ref q6, .ref q7, .ref q8, .ref q9, .null, .null, .null, .int 0, .int 0, .null, .null, .null])), (q1, .inl (c1, 32, .inl (fun _ => 0))), (q2, .inl (c2, 32, .inl (fun _ => 0))), (q3, .inl (c3, 32, .inl (fun _ => 0))), (q4, .inl (c4, 32, .inl (fun _ => 0))), (q5, .inl (c5, 16, .inl (fun _ => 0))), (q6, .inl (c6, 16, .inl (fun _ => 0))), (q7, .inl (c7, 32, .inl (fun _ => 0))), (q8, .inl (c8, 8, .inl (fun _ => 0))), (q9, .inl (c9, 8, .inl (fun _ => 0)))] := hD
  refine lv_aload_n hx hb dX1_init_101 rfl (lv_at hl 0 rfl) ?_
  refine lv_bipush (v := 8) hx hb dX1_init_102 (by decide) ?_
  refine va_newa (atype := .int) (a0 := (8, .inl (fun _ => 0))) (N' := 8) hx hb (hts _ q84) rfl hK hP hD hS hA (fun _ => rfl) (by decide) (by decide) (by decide) (Nat.le_of_ble_eq_true rfl) (Nat.le_of_ble_eq_true rfl) dX1_init_104 (fun q10 c10 H hK hP hD hS => ?_)
  have hP : va_P (dC, dI) vwCl [(h0, .inr (0, [.int v, .int 0, .ref q1, .ref q2, .ref q3, .ref q4, .ref q5, .ref q6, .ref q7, .ref q8, .ref q9, .null, .null, .null, .int 0, .int 0, .null, .null, .null])), (q1, .inl (c1, 32, .inl (fun _ => 0))), (q2, .inl (c2, 32, .inl (fun _ => 0))), (q3, .inl (c3, 32, .inl (fun _ => 0))), (q4, .inl (c4, 32, .inl (fun _ => 0))), (q5, .inl (c5, 16, .inl (fun _ => 0))), (q6, .inl (c6, 16, .inl (fun _ => 0))), (q7, .inl (c7, 32, .inl (fun _ => 0))), (q8, .inl (c8, 8, .inl (fun _ => 0))), (q9, .inl (c9, 8, .inl (fun _ => 0))), (q10, .inl (c10, 8, .inl (fun _ => 0)))] H := hP
  have hD : va_D A [(h0, .inr (0, [.int v, .int 0, .ref q1, .ref q2, .ref q3, .ref q4, .ref q5, .ref q6, .ref q7, .ref q8, .ref q9, .null, .null, .null, .int 0, .int 0, .null, .null, .null])), (q1, .inl (c1, 32, .inl (fun _ => 0))), (q2, .inl (c2, 32, .inl (fun _ => 0))), (q3, .inl (c3, 32, .inl (fun _ => 0))), (q4, .inl (c4, 32, .inl (fun _ => 0))), (q5, .inl (c5, 16, .inl (fun _ => 0))), (q6, .inl (c6, 16, .inl (fun _ => 0))), (q7, .inl (c7, 32, .inl (fun _ => 0))), (q8, .inl (c8, 8, .inl (fun _ => 0))), (q9, .inl (c9, 8, .inl (fun _ => 0))), (q10, .inl (c10, 8, .inl (fun _ => 0)))] := hD
  have hK : va_K (dC, dI) vwCl [(c1, .int), (c2, .int), (c3, .int), (c4, .int), (c5, .int), (c6, .int), (c7, .int), (c8, .int), (c9, .int), (c10, .int)] s := hK
  refine va_putF (D := (dC, dI)) (ci := 0) (v := .ref q10) (ty := .array .int) (C := RX1) (T := TX1) (N := 19) hx hb hts in_X1 tyX1 tyX1_ok nmX1 hown hK hP hD hS 0 rfl rfl 11 (by decide) (hts _ q37) (fun _ h9 => h9) rfl hin rfl (by decide +kernel) rfl rfl (Nat.le_of_ble_eq_true rfl) dX1_init_106 (fun H locs hP hD hS => ?_)
  have hP : va_P (dC, dI) vwCl [(h0, .inr (0, [.int v, .int 0, .ref q1, .ref q2, .ref q3, .ref q4, .ref q5, .ref q6, .ref q7, .ref q8, .ref q9, .ref q10, .null, .null, .int 0, .int 0, .null, .null, .null])), (q1, .inl (c1, 32, .inl (fun _ => 0))), (q2, .inl (c2, 32, .inl (fun _ => 0))), (q3, .inl (c3, 32, .inl (fun _ => 0))), (q4, .inl (c4, 32, .inl (fun _ => 0))), (q5, .inl (c5, 16, .inl (fun _ => 0))), (q6, .inl (c6, 16, .inl (fun _ => 0))), (q7, .inl (c7, 32, .inl (fun _ => 0))), (q8, .inl (c8, 8, .inl (fun _ => 0))), (q9, .inl (c9, 8, .inl (fun _ => 0))), (q10, .inl (c10, 8, .inl (fun _ => 0)))] H := hP
  have hD : va_D A [(h0, .inr (0, [.int v, .int 0, .ref q1, .ref q2, .ref q3, .ref q4, .ref q5, .ref q6, .ref q7, .ref q8, .ref q9, .ref q10, .null, .null, .int 0, .int 0, .null, .null, .null])), (q1, .inl (c1, 32, .inl (fun _ => 0))), (q2, .inl (c2, 32, .inl (fun _ => 0))), (q3, .inl (c3, 32, .inl (fun _ => 0))), (q4, .inl (c4, 32, .inl (fun _ => 0))), (q5, .inl (c5, 16, .inl (fun _ => 0))), (q6, .inl (c6, 16, .inl (fun _ => 0))), (q7, .inl (c7, 32, .inl (fun _ => 0))), (q8, .inl (c8, 8, .inl (fun _ => 0))), (q9, .inl (c9, 8, .inl (fun _ => 0))), (q10, .inl (c10, 8, .inl (fun _ => 0)))] := hD
  refine lv_aload_n hx hb dX1_init_109 rfl (lv_at hl 0 rfl) ?_
  refine lv_bipush (v := 33) hx hb dX1_init_110 (by decide) ?_
  refine va_newa (atype := .long) (a0 := (33, .inr (.inl (fun _ => 0)))) (N' := 33) hx hb (hts _ q85) rfl hK hP hD hS hA (fun _ => rfl) (by decide) (by decide) (by decide) (Nat.le_of_ble_eq_true rfl) (Nat.le_of_ble_eq_true rfl) dX1_init_112 (fun q11 c11 H hK hP hD hS => ?_)
  have hP : va_P (dC, dI) vwCl [(h0, .inr (0, [.int v, .int 0, .ref q1, .ref q2, .ref q3, .ref q4, .ref q5, .ref q6, .ref q7, .ref q8, .ref q9, .ref q10, .null, .null, .int 0, .int 0, .null, .null, .null])), (q1, .inl (c1, 32, .inl (fun _ => 0))), (q2, .inl (c2, 32, .inl (fun _ => 0))), (q3, .inl (c3, 32, .inl (fun _ => 0))), (q4, .inl (c4, 32, .inl (fun _ => 0))), (q5, .inl (c5, 16, .inl (fun _ => 0))), (q6, .inl (c6, 16, .inl (fun _ => 0))), (q7, .inl (c7, 32, .inl (fun _ => 0))), (q8, .inl (c8, 8, .inl (fun _ => 0))), (q9, .inl (c9, 8, .inl (fun _ => 0))), (q10, .inl (c10, 8, .inl (fun _ => 0))), (q11, .inl (c11, 33, .inr (.inl (fun _ => 0))))] H := hP
  have hD : va_D A [(h0, .inr (0, [.int v, .int 0, .ref q1, .ref q2, .ref q3, .ref q4, .ref q5, .ref q6, .ref q7, .ref q8, .ref q9, .ref q10, .null, .null, .int 0, .int 0, .null, .null, .null])), (q1, .inl (c1, 32, .inl (fun _ => 0))), (q2, .inl (c2, 32, .inl (fun _ => 0))), (q3, .inl (c3, 32, .inl (fun _ => 0))), (q4, .inl (c4, 32, .inl (fun _ => 0))), (q5, .inl (c5, 16, .inl (fun _ => 0))), (q6, .inl (c6, 16, .inl (fun _ => 0))), (q7, .inl (c7, 32, .inl (fun _ => 0))), (q8, .inl (c8, 8, .inl (fun _ => 0))), (q9, .inl (c9, 8, .inl (fun _ => 0))), (q10, .inl (c10, 8, .inl (fun _ => 0))), (q11, .inl (c11, 33, .inr (.inl (fun _ => 0))))] := hD
  have hK : va_K (dC, dI) vwCl [(c1, .int), (c2, .int), (c3, .int), (c4, .int), (c5, .int), (c6, .int), (c7, .int), (c8, .int), (c9, .int), (c10, .int), (c11, .long)] s := hK
  refine va_putF (D := (dC, dI)) (ci := 0) (v := .ref q11) (ty := .array .long) (C := RX1) (T := TX1) (N := 19) hx hb hts in_X1 tyX1 tyX1_ok nmX1 hown hK hP hD hS 0 rfl rfl 12 (by decide) (hts _ q38) (fun _ h9 => h9) rfl hin rfl (by decide +kernel) rfl rfl (Nat.le_of_ble_eq_true rfl) dX1_init_114 (fun H locs hP hD hS => ?_)
  have hP : va_P (dC, dI) vwCl [(h0, .inr (0, [.int v, .int 0, .ref q1, .ref q2, .ref q3, .ref q4, .ref q5, .ref q6, .ref q7, .ref q8, .ref q9, .ref q10, .ref q11, .null, .int 0, .int 0, .null, .null, .null])), (q1, .inl (c1, 32, .inl (fun _ => 0))), (q2, .inl (c2, 32, .inl (fun _ => 0))), (q3, .inl (c3, 32, .inl (fun _ => 0))), (q4, .inl (c4, 32, .inl (fun _ => 0))), (q5, .inl (c5, 16, .inl (fun _ => 0))), (q6, .inl (c6, 16, .inl (fun _ => 0))), (q7, .inl (c7, 32, .inl (fun _ => 0))), (q8, .inl (c8, 8, .inl (fun _ => 0))), (q9, .inl (c9, 8, .inl (fun _ => 0))), (q10, .inl (c10, 8, .inl (fun _ => 0))), (q11, .inl (c11, 33, .inr (.inl (fun _ => 0))))] H := hP
  have hD : va_D A [(h0, .inr (0, [.int v, .int 0, .ref q1, .ref q2, .ref q3, .ref q4, .ref q5, .ref q6, .ref q7, .ref q8, .ref q9, .ref q10, .ref q11, .null, .int 0, .int 0, .null, .null, .null])), (q1, .inl (c1, 32, .inl (fun _ => 0))), (q2, .inl (c2, 32, .inl (fun _ => 0))), (q3, .inl (c3, 32, .inl (fun _ => 0))), (q4, .inl (c4, 32, .inl (fun _ => 0))), (q5, .inl (c5, 16, .inl (fun _ => 0))), (q6, .inl (c6, 16, .inl (fun _ => 0))), (q7, .inl (c7, 32, .inl (fun _ => 0))), (q8, .inl (c8, 8, .inl (fun _ => 0))), (q9, .inl (c9, 8, .inl (fun _ => 0))), (q10, .inl (c10, 8, .inl (fun _ => 0))), (q11, .inl (c11, 33, .inr (.inl (fun _ => 0))))] := hD
  refine lv_aload_n hx hb dX1_init_117 rfl (lv_at hl 0 rfl) ?_
  refine lv_bipush (v := 33) hx hb dX1_init_118 (by decide) ?_
  refine va_newa (atype := .int) (a0 := (33, .inl (fun _ => 0))) (N' := 33) hx hb (hts _ q84) rfl hK hP hD hS hA (fun _ => rfl) (by decide) (by decide) (by decide) (Nat.le_of_ble_eq_true rfl) (Nat.le_of_ble_eq_true rfl) dX1_init_120 (fun q12 c12 H hK hP hD hS => ?_)
  have hP : va_P (dC, dI) vwCl [(h0, .inr (0, [.int v, .int 0, .ref q1, .ref q2, .ref q3, .ref q4, .ref q5, .ref q6, .ref q7, .ref q8, .ref q9, .ref q10, .ref q11, .null, .int 0, .int 0, .null, .null, .null])), (q1, .inl (c1, 32, .inl (fun _ => 0))), (q2, .inl (c2, 32, .inl (fun _ => 0))), (q3, .inl (c3, 32, .inl (fun _ => 0))), (q4, .inl (c4, 32, .inl (fun _ => 0))), (q5, .inl (c5, 16, .inl (fun _ => 0))), (q6, .inl (c6, 16, .inl (fun _ => 0))), (q7, .inl (c7, 32, .inl (fun _ => 0))), (q8, .inl (c8, 8, .inl (fun _ => 0))), (q9, .inl (c9, 8, .inl (fun _ => 0))), (q10, .inl (c10, 8, .inl (fun _ => 0))), (q11, .inl (c11, 33, .inr (.inl (fun _ => 0)))), (q12, .inl (c12, 33, .inl (fun _ => 0)))] H := hP
  have hD : va_D A [(h0, .inr (0, [.int v, .int 0, .ref q1, .ref q2, .ref q3, .ref q4, .ref q5, .ref q6, .ref q7, .ref q8, .ref q9, .ref q10, .ref q11, .null, .int 0, .int 0, .null, .null, .null])), (q1, .inl (c1, 32, .inl (fun _ => 0))), (q2, .inl (c2, 32, .inl (fun _ => 0))), (q3, .inl (c3, 32, .inl (fun _ => 0))), (q4, .inl (c4, 32, .inl (fun _ => 0))), (q5, .inl (c5, 16, .inl (fun _ => 0))), (q6, .inl (c6, 16, .inl (fun _ => 0))), (q7, .inl (c7, 32, .inl (fun _ => 0))), (q8, .inl (c8, 8, .inl (fun _ => 0))), (q9, .inl (c9, 8, .inl (fun _ => 0))), (q10, .inl (c10, 8, .inl (fun _ => 0))), (q11, .inl (c11, 33, .inr (.inl (fun _ => 0)))), (q12, .inl (c12, 33, .inl (fun _ => 0)))] := hD
  have hK : va_K (dC, dI) vwCl [(c1, .int), (c2, .int), (c3, .int), (c4, .int), (c5, .int), (c6, .int), (c7, .int), (c8, .int), (c9, .int), (c10, .int), (c11, .long), (c12, .int)] s := hK
  refine va_putF (D := (dC, dI)) (ci := 0) (v := .ref q12) (ty := .array .int) (C := RX1) (T := TX1) (N := 19) hx hb hts in_X1 tyX1 tyX1_ok nmX1 hown hK hP hD hS 0 rfl rfl 13 (by decide) (hts _ q39) (fun _ h9 => h9) rfl hin rfl (by decide +kernel) rfl rfl (Nat.le_of_ble_eq_true rfl) dX1_init_122 (fun H locs hP hD hS => ?_)
  have hP : va_P (dC, dI) vwCl [(h0, .inr (0, [.int v, .int 0, .ref q1, .ref q2, .ref q3, .ref q4, .ref q5, .ref q6, .ref q7, .ref q8, .ref q9, .ref q10, .ref q11, .ref q12, .int 0, .int 0, .null, .null, .null])), (q1, .inl (c1, 32, .inl (fun _ => 0))), (q2, .inl (c2, 32, .inl (fun _ => 0))), (q3, .inl (c3, 32, .inl (fun _ => 0))), (q4, .inl (c4, 32, .inl (fun _ => 0))), (q5, .inl (c5, 16, .inl (fun _ => 0))), (q6, .inl (c6, 16, .inl (fun _ => 0))), (q7, .inl (c7, 32, .inl (fun _ => 0))), (q8, .inl (c8, 8, .inl (fun _ => 0))), (q9, .inl (c9, 8, .inl (fun _ => 0))), (q10, .inl (c10, 8, .inl (fun _ => 0))), (q11, .inl (c11, 33, .inr (.inl (fun _ => 0)))), (q12, .inl (c12, 33, .inl (fun _ => 0)))] H := hP
  have hD : va_D A [(h0, .inr (0, [.int v, .int 0, .ref q1, .ref q2, .ref q3, .ref q4, .ref q5, .ref q6, .ref q7, .ref q8, .ref q9, .ref q10, .ref q11, .ref q12, .int 0, .int 0, .null, .null, .null])), (q1, .inl (c1, 32, .inl (fun _ => 0))), (q2, .inl (c2, 32, .inl (fun _ => 0))), (q3, .inl (c3, 32, .inl (fun _ => 0))), (q4, .inl (c4, 32, .inl (fun _ => 0))), (q5, .inl (c5, 16, .inl (fun _ => 0))), (q6, .inl (c6, 16, .inl (fun _ => 0))), (q7, .inl (c7, 32, .inl (fun _ => 0))), (q8, .inl (c8, 8, .inl (fun _ => 0))), (q9, .inl (c9, 8, .inl (fun _ => 0))), (q10, .inl (c10, 8, .inl (fun _ => 0))), (q11, .inl (c11, 33, .inr (.inl (fun _ => 0)))), (q12, .inl (c12, 33, .inl (fun _ => 0)))] := hD
  refine lv_aload_n hx hb dX1_init_125 rfl (lv_at hl 0 rfl) ?_
  refine lv_bipush (v := 32) hx hb dX1_init_126 (by decide) ?_
  refine va_newa (atype := .int) (a0 := (32, .inl (fun _ => 0))) (N' := 32) hx hb (hts _ q84) rfl hK hP hD hS hA (fun _ => rfl) (by decide) (by decide) (by decide) (Nat.le_of_ble_eq_true rfl) (Nat.le_of_ble_eq_true rfl) dX1_init_128 (fun q13 c13 H hK hP hD hS => ?_)
  have hP : va_P (dC, dI) vwCl [(h0, .inr (0, [.int v, .int 0, .ref q1, .ref q2, .ref q3, .ref q4, .ref q5, .ref q6, .ref q7, .ref q8, .ref q9, .ref q10, .ref q11, .ref q12, .int 0, .int 0, .null, .null, .null])), (q1, .inl (c1, 32, .inl (fun _ => 0))), (q2, .inl (c2, 32, .inl (fun _ => 0))), (q3, .inl (c3, 32, .inl (fun _ => 0))), (q4, .inl (c4, 32, .inl (fun _ => 0))), (q5, .inl (c5, 16, .inl (fun _ => 0))), (q6, .inl (c6, 16, .inl (fun _ => 0))), (q7, .inl (c7, 32, .inl (fun _ => 0))), (q8, .inl (c8, 8, .inl (fun _ => 0))), (q9, .inl (c9, 8, .inl (fun _ => 0))), (q10, .inl (c10, 8, .inl (fun _ => 0))), (q11, .inl (c11, 33, .inr (.inl (fun _ => 0)))), (q12, .inl (c12, 33, .inl (fun _ => 0))), (q13, .inl (c13, 32, .inl (fun _ => 0)))] H := hP
  have hD : va_D A [(h0, .inr (0, [.int v, .int 0, .ref q1, .ref q2, .ref q3, .ref q4, .ref q5, .ref q6, .ref q7, .ref q8, .ref q9, .ref q10, .ref q11, .ref q12, .int 0, .int 0, .null, .null, .null])), (q1, .inl (c1, 32, .inl (fun _ => 0))), (q2, .inl (c2, 32, .inl (fun _ => 0))), (q3, .inl (c3, 32, .inl (fun _ => 0))), (q4, .inl (c4, 32, .inl (fun _ => 0))), (q5, .inl (c5, 16, .inl (fun _ => 0))), (q6, .inl (c6, 16, .inl (fun _ => 0))), (q7, .inl (c7, 32, .inl (fun _ => 0))), (q8, .inl (c8, 8, .inl (fun _ => 0))), (q9, .inl (c9, 8, .inl (fun _ => 0))), (q10, .inl (c10, 8, .inl (fun _ => 0))), (q11, .inl (c11, 33, .inr (.inl (fun _ => 0)))), (q12, .inl (c12, 33, .inl (fun _ => 0))), (q13, .inl (c13, 32, .inl (fun _ => 0)))] := hD
  have hK : va_K (dC, dI) vwCl [(c1, .int), (c2, .int), (c3, .int), (c4, .int), (c5, .int), (c6, .int), (c7, .int), (c8, .int), (c9, .int), (c10, .int), (c11, .long), (c12, .int), (c13, .int)] s := hK
  refine va_putF (D := (dC, dI)) (ci := 0) (v := .ref q13) (ty := .array .int) (C := RX1) (T := TX1) (N := 19) hx hb hts in_X1 tyX1 tyX1_ok nmX1 hown hK hP hD hS 0 rfl rfl 16 (by decide) (hts _ q42) (fun _ h9 => h9) rfl hin rfl (by decide +kernel) rfl rfl (Nat.le_of_ble_eq_true rfl) dX1_init_130 (fun H locs hP hD hS => ?_)
  have hP : va_P (dC, dI) vwCl [(h0, .inr (0, [.int v, .int 0, .ref q1, .ref q2, .ref q3, .ref q4, .ref q5, .ref q6, .ref q7, .ref q8, .ref q9, .ref q10, .ref q11, .ref q12, .int 0, .int 0, .ref q13, .null, .null])), (q1, .inl (c1, 32, .inl (fun _ => 0))), (q2, .inl (c2, 32, .inl (fun _ => 0))), (q3, .inl (c3, 32, .inl (fun _ => 0))), (q4, .inl (c4, 32, .inl (fun _ => 0))), (q5, .inl (c5, 16, .inl (fun _ => 0))), (q6, .inl (c6, 16, .inl (fun _ => 0))), (q7, .inl (c7, 32, .inl (fun _ => 0))), (q8, .inl (c8, 8, .inl (fun _ => 0))), (q9, .inl (c9, 8, .inl (fun _ => 0))), (q10, .inl (c10, 8, .inl (fun _ => 0))), (q11, .inl (c11, 33, .inr (.inl (fun _ => 0)))), (q12, .inl (c12, 33, .inl (fun _ => 0))), (q13, .inl (c13, 32, .inl (fun _ => 0)))] H := hP
  have hD : va_D A [(h0, .inr (0, [.int v, .int 0, .ref q1, .ref q2, .ref q3, .ref q4, .ref q5, .ref q6, .ref q7, .ref q8, .ref q9, .ref q10, .ref q11, .ref q12, .int 0, .int 0, .ref q13, .null, .null])), (q1, .inl (c1, 32, .inl (fun _ => 0))), (q2, .inl (c2, 32, .inl (fun _ => 0))), (q3, .inl (c3, 32, .inl (fun _ => 0))), (q4, .inl (c4, 32, .inl (fun _ => 0))), (q5, .inl (c5, 16, .inl (fun _ => 0))), (q6, .inl (c6, 16, .inl (fun _ => 0))), (q7, .inl (c7, 32, .inl (fun _ => 0))), (q8, .inl (c8, 8, .inl (fun _ => 0))), (q9, .inl (c9, 8, .inl (fun _ => 0))), (q10, .inl (c10, 8, .inl (fun _ => 0))), (q11, .inl (c11, 33, .inr (.inl (fun _ => 0)))), (q12, .inl (c12, 33, .inl (fun _ => 0))), (q13, .inl (c13, 32, .inl (fun _ => 0)))] := hD
  refine lv_aload_n hx hb dX1_init_133 rfl (lv_at hl 0 rfl) ?_
  refine lv_bipush (v := 32) hx hb dX1_init_134 (by decide) ?_
  refine va_newa (atype := .int) (a0 := (32, .inl (fun _ => 0))) (N' := 32) hx hb (hts _ q84) rfl hK hP hD hS hA (fun _ => rfl) (by decide) (by decide) (by decide) (Nat.le_of_ble_eq_true rfl) (Nat.le_of_ble_eq_true rfl) dX1_init_136 (fun q14 c14 H hK hP hD hS => ?_)
  have hP : va_P (dC, dI) vwCl [(h0, .inr (0, [.int v, .int 0, .ref q1, .ref q2, .ref q3, .ref q4, .ref q5, .ref q6, .ref q7, .ref q8, .ref q9, .ref q10, .ref q11, .ref q12, .int 0, .int 0, .ref q13, .null, .null])), (q1, .inl (c1, 32, .inl (fun _ => 0))), (q2, .inl (c2, 32, .inl (fun _ => 0))), (q3, .inl (c3, 32, .inl (fun _ => 0))), (q4, .inl (c4, 32, .inl (fun _ => 0))), (q5, .inl (c5, 16, .inl (fun _ => 0))), (q6, .inl (c6, 16, .inl (fun _ => 0))), (q7, .inl (c7, 32, .inl (fun _ => 0))), (q8, .inl (c8, 8, .inl (fun _ => 0))), (q9, .inl (c9, 8, .inl (fun _ => 0))), (q10, .inl (c10, 8, .inl (fun _ => 0))), (q11, .inl (c11, 33, .inr (.inl (fun _ => 0)))), (q12, .inl (c12, 33, .inl (fun _ => 0))), (q13, .inl (c13, 32, .inl (fun _ => 0))), (q14, .inl (c14, 32, .inl (fun _ => 0)))] H := hP
  have hD : va_D A [(h0, .inr (0, [.int v, .int 0, .ref q1, .ref q2, .ref q3, .ref q4, .ref q5, .ref q6, .ref q7, .ref q8, .ref q9, .ref q10, .ref q11, .ref q12, .int 0, .int 0, .ref q13, .null, .null])), (q1, .inl (c1, 32, .inl (fun _ => 0))), (q2, .inl (c2, 32, .inl (fun _ => 0))), (q3, .inl (c3, 32, .inl (fun _ => 0))), (q4, .inl (c4, 32, .inl (fun _ => 0))), (q5, .inl (c5, 16, .inl (fun _ => 0))), (q6, .inl (c6, 16, .inl (fun _ => 0))), (q7, .inl (c7, 32, .inl (fun _ => 0))), (q8, .inl (c8, 8, .inl (fun _ => 0))), (q9, .inl (c9, 8, .inl (fun _ => 0))), (q10, .inl (c10, 8, .inl (fun _ => 0))), (q11, .inl (c11, 33, .inr (.inl (fun _ => 0)))), (q12, .inl (c12, 33, .inl (fun _ => 0))), (q13, .inl (c13, 32, .inl (fun _ => 0))), (q14, .inl (c14, 32, .inl (fun _ => 0)))] := hD
  have hK : va_K (dC, dI) vwCl [(c1, .int), (c2, .int), (c3, .int), (c4, .int), (c5, .int), (c6, .int), (c7, .int), (c8, .int), (c9, .int), (c10, .int), (c11, .long), (c12, .int), (c13, .int), (c14, .int)] s := hK
  refine va_putF (D := (dC, dI)) (ci := 0) (v := .ref q14) (ty := .array .int) (C := RX1) (T := TX1) (N := 19) hx hb hts in_X1 tyX1 tyX1_ok nmX1 hown hK hP hD hS 0 rfl rfl 17 (by decide) (hts _ q43) (fun _ h9 => h9) rfl hin rfl (by decide +kernel) rfl rfl (Nat.le_of_ble_eq_true rfl) dX1_init_138 (fun H locs hP hD hS => ?_)
  have hP : va_P (dC, dI) vwCl [(h0, .inr (0, [.int v, .int 0, .ref q1, .ref q2, .ref q3, .ref q4, .ref q5, .ref q6, .ref q7, .ref q8, .ref q9, .ref q10, .ref q11, .ref q12, .int 0, .int 0, .ref q13, .ref q14, .null])), (q1, .inl (c1, 32, .inl (fun _ => 0))), (q2, .inl (c2, 32, .inl (fun _ => 0))), (q3, .inl (c3, 32, .inl (fun _ => 0))), (q4, .inl (c4, 32, .inl (fun _ => 0))), (q5, .inl (c5, 16, .inl (fun _ => 0))), (q6, .inl (c6, 16, .inl (fun _ => 0))), (q7, .inl (c7, 32, .inl (fun _ => 0))), (q8, .inl (c8, 8, .inl (fun _ => 0))), (q9, .inl (c9, 8, .inl (fun _ => 0))), (q10, .inl (c10, 8, .inl (fun _ => 0))), (q11, .inl (c11, 33, .inr (.inl (fun _ => 0)))), (q12, .inl (c12, 33, .inl (fun _ => 0))), (q13, .inl (c13, 32, .inl (fun _ => 0))), (q14, .inl (c14, 32, .inl (fun _ => 0)))] H := hP
  have hD : va_D A [(h0, .inr (0, [.int v, .int 0, .ref q1, .ref q2, .ref q3, .ref q4, .ref q5, .ref q6, .ref q7, .ref q8, .ref q9, .ref q10, .ref q11, .ref q12, .int 0, .int 0, .ref q13, .ref q14, .null])), (q1, .inl (c1, 32, .inl (fun _ => 0))), (q2, .inl (c2, 32, .inl (fun _ => 0))), (q3, .inl (c3, 32, .inl (fun _ => 0))), (q4, .inl (c4, 32, .inl (fun _ => 0))), (q5, .inl (c5, 16, .inl (fun _ => 0))), (q6, .inl (c6, 16, .inl (fun _ => 0))), (q7, .inl (c7, 32, .inl (fun _ => 0))), (q8, .inl (c8, 8, .inl (fun _ => 0))), (q9, .inl (c9, 8, .inl (fun _ => 0))), (q10, .inl (c10, 8, .inl (fun _ => 0))), (q11, .inl (c11, 33, .inr (.inl (fun _ => 0)))), (q12, .inl (c12, 33, .inl (fun _ => 0))), (q13, .inl (c13, 32, .inl (fun _ => 0))), (q14, .inl (c14, 32, .inl (fun _ => 0)))] := hD
  refine lv_aload_n hx hb dX1_init_141 rfl (lv_at hl 0 rfl) ?_
  refine lv_bipush (v := 32) hx hb dX1_init_142 (by decide) ?_
  refine va_newa (atype := .int) (a0 := (32, .inl (fun _ => 0))) (N' := 32) hx hb (hts _ q84) rfl hK hP hD hS hA (fun _ => rfl) (by decide) (by decide) (by decide) (Nat.le_of_ble_eq_true rfl) (Nat.le_of_ble_eq_true rfl) dX1_init_144 (fun q15 c15 H hK hP hD hS => ?_)
  have hP : va_P (dC, dI) vwCl [(h0, .inr (0, [.int v, .int 0, .ref q1, .ref q2, .ref q3, .ref q4, .ref q5, .ref q6, .ref q7, .ref q8, .ref q9, .ref q10, .ref q11, .ref q12, .int 0, .int 0, .ref q13, .ref q14, .null])), (q1, .inl (c1, 32, .inl (fun _ => 0))), (q2, .inl (c2, 32, .inl (fun _ => 0))), (q3, .inl (c3, 32, .inl (fun _ => 0))), (q4, .inl (c4, 32, .inl (fun _ => 0))), (q5, .inl (c5, 16, .inl (fun _ => 0))), (q6, .inl (c6, 16, .inl (fun _ => 0))), (q7, .inl (c7, 32, .inl (fun _ => 0))), (q8, .inl (c8, 8, .inl (fun _ => 0))), (q9, .inl (c9, 8, .inl (fun _ => 0))), (q10, .inl (c10, 8, .inl (fun _ => 0))), (q11, .inl (c11, 33, .inr (.inl (fun _ => 0)))), (q12, .inl (c12, 33, .inl (fun _ => 0))), (q13, .inl (c13, 32, .inl (fun _ => 0))), (q14, .inl (c14, 32, .inl (fun _ => 0))), (q15, .inl (c15, 32, .inl (fun _ => 0)))] H := hP
  have hD : va_D A [(h0, .inr (0, [.int v, .int 0, .ref q1, .ref q2, .ref q3, .ref q4, .ref q5, .ref q6, .ref q7, .ref q8, .ref q9, .ref q10, .ref q11, .ref q12, .int 0, .int 0, .ref q13, .ref q14, .null])), (q1, .inl (c1, 32, .inl (fun _ => 0))), (q2, .inl (c2, 32, .inl (fun _ => 0))), (q3, .inl (c3, 32, .inl (fun _ => 0))), (q4, .inl (c4, 32, .inl (fun _ => 0))), (q5, .inl (c5, 16, .inl (fun _ => 0))), (q6, .inl (c6, 16, .inl (fun _ => 0))), (q7, .inl (c7, 32, .inl (fun _ => 0))), (q8, .inl (c8, 8, .inl (fun _ => 0))), (q9, .inl (c9, 8, .inl (fun _ => 0))), (q10, .inl (c10, 8, .inl (fun _ => 0))), (q11, .inl (c11, 33, .inr (.inl (fun _ => 0)))), (q12, .inl (c12, 33, .inl (fun _ => 0))), (q13, .inl (c13, 32, .inl (fun _ => 0))), (q14, .inl (c14, 32, .inl (fun _ => 0))), (q15, .inl (c15, 32, .inl (fun _ => 0)))] := hD
  have hK : va_K (dC, dI) vwCl [(c1, .int), (c2, .int), (c3, .int), (c4, .int), (c5, .int), (c6, .int), (c7, .int), (c8, .int), (c9, .int), (c10, .int), (c11, .long), (c12, .int), (c13, .int), (c14, .int), (c15, .int)] s := hK
  refine va_putF (D := (dC, dI)) (ci := 0) (v := .ref q15) (ty := .array .int) (C := RX1) (T := TX1) (N := 19) hx hb hts in_X1 tyX1 tyX1_ok nmX1 hown hK hP hD hS 0 rfl rfl 18 (by decide) (hts _ q44) (fun _ h9 => h9) rfl hin rfl (by decide +kernel) rfl rfl (Nat.le_of_ble_eq_true rfl) dX1_init_146 (fun H locs hP hD hS => ?_)
  have hP : va_P (dC, dI) vwCl [(h0, .inr (0, [.int v, .int 0, .ref q1, .ref q2, .ref q3, .ref q4, .ref q5, .ref q6, .ref q7, .ref q8, .ref q9, .ref q10, .ref q11, .ref q12, .int 0, .int 0, .ref q13, .ref q14, .ref q15])), (q1, .inl (c1, 32, .inl (fun _ => 0))), (q2, .inl (c2, 32, .inl (fun _ => 0))), (q3, .inl (c3, 32, .inl (fun _ => 0))), (q4, .inl (c4, 32, .inl (fun _ => 0))), (q5, .inl (c5, 16, .inl (fun _ => 0))), (q6, .inl (c6, 16, .inl (fun _ => 0))), (q7, .inl (c7, 32, .inl (fun _ => 0))), (q8, .inl (c8, 8, .inl (fun _ => 0))), (q9, .inl (c9, 8, .inl (fun _ => 0))), (q10, .inl (c10, 8, .inl (fun _ => 0))), (q11, .inl (c11, 33, .inr (.inl (fun _ => 0)))), (q12, .inl (c12, 33, .inl (fun _ => 0))), (q13, .inl (c13, 32, .inl (fun _ => 0))), (q14, .inl (c14, 32, .inl (fun _ => 0))), (q15, .inl (c15, 32, .inl (fun _ => 0)))] H := hP
  have hD : va_D A [(h0, .inr (0, [.int v, .int 0, .ref q1, .ref q2, .ref q3, .ref q4, .ref q5, .ref q6, .ref q7, .ref q8, .ref q9, .ref q10, .ref q11, .ref q12, .int 0, .int 0, .ref q13, .ref q14, .ref q15])), (q1, .inl (c1, 32, .inl (fun _ => 0))), (q2, .inl (c2, 32, .inl (fun _ => 0))), (q3, .inl (c3, 32, .inl (fun _ => 0))), (q4, .inl (c4, 32, .inl (fun _ => 0))), (q5, .inl (c5, 16, .inl (fun _ => 0))), (q6, .inl (c6, 16, .inl (fun _ => 0))), (q7, .inl (c7, 32, .inl (fun _ => 0))), (q8, .inl (c8, 8, .inl (fun _ => 0))), (q9, .inl (c9, 8, .inl (fun _ => 0))), (q10, .inl (c10, 8, .inl (fun _ => 0))), (q11, .inl (c11, 33, .inr (.inl (fun _ => 0)))), (q12, .inl (c12, 33, .inl (fun _ => 0))), (q13, .inl (c13, 32, .inl (fun _ => 0))), (q14, .inl (c14, 32, .inl (fun _ => 0))), (q15, .inl (c15, 32, .inl (fun _ => 0)))] := hD
  have e_c2 : c2 = c1 := z_cls hK (i := 1) (j := 0) rfl rfl
  have e_c3 : c3 = c1 := z_cls hK (i := 2) (j := 0) rfl rfl
  have e_c4 : c4 = c1 := z_cls hK (i := 3) (j := 0) rfl rfl
  have e_c5 : c5 = c1 := z_cls hK (i := 4) (j := 0) rfl rfl
  have e_c6 : c6 = c1 := z_cls hK (i := 5) (j := 0) rfl rfl
  have e_c7 : c7 = c1 := z_cls hK (i := 6) (j := 0) rfl rfl
  have e_c8 : c8 = c1 := z_cls hK (i := 7) (j := 0) rfl rfl
  have e_c9 : c9 = c1 := z_cls hK (i := 8) (j := 0) rfl rfl
  have e_c10 : c10 = c1 := z_cls hK (i := 9) (j := 0) rfl rfl
  have e_c12 : c12 = c1 := z_cls hK (i := 11) (j := 0) rfl rfl
  have e_c13 : c13 = c1 := z_cls hK (i := 12) (j := 0) rfl rfl
  have e_c14 : c14 = c1 := z_cls hK (i := 13) (j := 0) rfl rfl
  have e_c15 : c15 = c1 := z_cls hK (i := 14) (j := 0) rfl rfl
  rw [e_c2] at hP hD
  rw [e_c3] at hP hD
  rw [e_c4] at hP hD
  rw [e_c5] at hP hD
  rw [e_c6] at hP hD
  rw [e_c7] at hP hD
  rw [e_c8] at hP hD
  rw [e_c9] at hP hD
  rw [e_c10] at hP hD
  rw [e_c12] at hP hD
  rw [e_c13] at hP hD
  rw [e_c14] at hP hD
  rw [e_c15] at hP hD
  exact kk (fun k => ([h0, q1, q2, q3, q4, q5, q6, q7, q8, q9, q10, q11, q12, q13, q14, q15] : List Nat).getD k 0) c1 c11 H locs ls rfl (hK.sub (tys' := tyL c1 c11) [0, 10] rfl) hP hD hS
end Making
set_option maxHeartbeats 4000000 in
set_option maxRecDepth 100000 in
theorem mX1_init (l : Launch) (dC : Nat → ClassId) (dI : Nat → Nat → Nat) (h0 sz : Nat) (k : Int32) : Met l yX1_init (ws_ yX1_init cX1_init 2 none) ({ frames := 1, cells := 15, slots := 378, locals := 12 } : Room) (va_Pc [.ref h0, .int k] (prW dC dI [] sz [(h0, .inr (0, [.int 0, .int 0, .null, .null, .null, .null, .null, .null, .null, .null, .null, .null, .null, .null, .int 0, .int 0, .null, .null, .null]))])) (va_Qv (fun (u : (Nat → Nat) × ClassId × ClassId) => u.1 0 = h0) (fun u => poW dC dI (tyL u.2.1 u.2.2) (va_A [(h0, .inr (0, [.int 0, .int 0, .null, .null, .null, .null, .null, .null, .null, .null, .null, .null, .null, .null, .int 0, .int 0, .null, .null, .null]))] sz) (w1 u.1 u.2.1 u.2.2 (th0 k) 0 (fun _ => 0) (fun _ => 0) (fun _ => 0) (fun _ => 0) (fun _ => 0) (fun _ => 0) (fun _ => 0) (fun _ => 0) (fun _ => 0) (fun _ => 0) (fun _ => 0) (fun _ => 0) 0 0 (fun _ => 0) (fun _ => 0) (fun _ => 0))) (va_A [(h0, .inr (0, [.int 0, .int 0, .null, .null, .null, .null, .null, .null, .null, .null, .null, .null, .null, .null, .int 0, .int 0, .null, .null, .null]))] sz)) 15 378 (va_A [(h0, .inr (0, [.int 0, .int 0, .null, .null, .null, .null, .null, .null, .null, .null, .null, .null, .null, .null, .int 0, .int 0, .null, .null, .null]))] sz) := by
  refine n_met (by decide) (Nat.le_of_ble_eq_true rfl) ?_
  intro p e s m below meth c ls SF hr hlocks hnm hsz hK hP hD hA hl
  subst hsz
  have hS : va_S (va_A [(h0, .inr (0, [.int 0, .int 0, .null, .null, .null, .null, .null, .null, .null, .null, .null, .null, .null, .null, .int 0, .int 0, .null, .null, .null]))] s.heap.size) s.heap s.heap [] := va_S.rf
  generalize va_A [(h0, .inr (0, [.int 0, .int 0, .null, .null, .null, .null, .null, .null, .null, .null, .null, .null, .null, .null, .int 0, .int 0, .null, .null, .null]))] s.heap.size = A at hD hA hS ⊢
  obtain ⟨hx, hb, hml, hown, hts⟩ := id SF
  have hown : s.vm.findClass RX1 = some m.cls := hown
  have SF : CallFix p m c cX1_init 2 s _ lw_all RX1 := SF
  have hl : lv_has ls 2 [(0, .ref h0), (1, .int k)] := hl
  have hin : meth.name = "<init>" := hnm
  refine lv_aload_n hx hb dX1_init_0 rfl (lv_at hl 0 rfl) ?_
  refine W.objInit hx hb hown (hts _ q23) (hts _ q24) (hts _ q25) rfl (by rw [hml]; exact hl.1) rfl dX1_init_1 (Nat.le_of_ble_eq_true rfl) (Nat.le_of_ble_eq_true rfl) ?_
  refine W.eq (g2 := F0 m 4 ls []) rfl ?_
  refine lv_aload_n hx hb dX1_init_4 rfl (lv_at hl 0 rfl) ?_
  refine lv_iload_n hx hb dX1_init_5 rfl (lv_at hl 1 rfl) ?_
  refine lv_iconst (v := 1) hx hb dX1_init_6 (by decide) ?_
  refine lv_icmp_ge (tgt := 14) hx hb dX1_init_7 (by decide) (fun c1 => ?_) (fun c1 => ?_)
  · refine lv_iload_n hx hb dX1_init_14 rfl (lv_at hl 1 rfl) ?_
    refine lv_bipush (v := 8) hx hb dX1_init_15 (by decide) ?_
    refine lv_icmp_le (tgt := 25) hx hb dX1_init_17 (by decide) (fun c2 => ?_) (fun c2 => ?_)
    · refine lv_iload_n hx hb dX1_init_25 rfl (lv_at hl 1 rfl) ?_
      refine lpX1_init SF hin hK hA h0 k k _ _ _ hP hD hS hl ?_
      intro a cI cJ H locs ls ha hK hP hD hS
      have ev : th0 k = k := by unfold th0; rw [if_neg (Int32.not_lt.mpr c1), if_neg (Int32.not_lt.mpr c2)]
      exact W.vret hx hb hr (fun t9 h9 hW9 => ⟨⟨(a, cI, cJ), rfl, ha, by rw [h9, ev]; exact hP, va_K.moved hW9.alike hK, by rw [ev]; exact hD⟩, hS.F h9⟩) hS.2.2 dX1_init_149
    · refine lv_bipush (v := 8) hx hb dX1_init_20 (by decide) ?_
      refine lv_goto (tgt := 26) hx hb dX1_init_22 (by decide) ?_
      refine lpX1_init SF hin hK hA h0 8 k _ _ _ hP hD hS hl ?_
      intro a cI cJ H locs ls ha hK hP hD hS
      have ev : th0 k = 8 := by unfold th0; rw [if_neg (Int32.not_lt.mpr c1), if_pos (Int32.not_le.mp c2)]
      exact W.vret hx hb hr (fun t9 h9 hW9 => ⟨⟨(a, cI, cJ), rfl, ha, by rw [h9, ev]; exact hP, va_K.moved hW9.alike hK, by rw [ev]; exact hD⟩, hS.F h9⟩) hS.2.2 dX1_init_149
  · refine lv_iconst (v := 1) hx hb dX1_init_10 (by decide) ?_
    refine lv_goto (tgt := 26) hx hb dX1_init_11 (by decide) ?_
    refine lpX1_init SF hin hK hA h0 1 k _ _ _ hP hD hS hl ?_
    intro a cI cJ H locs ls ha hK hP hD hS
    have ev : th0 k = 1 := by unfold th0; rw [if_pos (Int32.not_le.mp c1)]
    exact W.vret hx hb hr (fun t9 h9 hW9 => ⟨⟨(a, cI, cJ), rfl, ha, by rw [h9, ev]; exact hP, va_K.moved hW9.alike hK, by rw [ev]; exact hD⟩, hS.F h9⟩) hS.2.2 dX1_init_149
set_option maxHeartbeats 4000000 in
set_option maxRecDepth 100000 in
theorem mX2_init (l : Launch) (dC : Nat → ClassId) (dI : Nat → Nat → Nat) (cI cJ : ClassId) (h0 sz : Nat) (k : Int32) : Met l yX2_init (ws_ yX2_init cX2_init 2 none) ({ frames := 1, cells := 10, slots := 216, locals := 12 } : Room) (va_Pc [.ref h0, .int k] (prW dC dI (tyL cI cJ) sz [(h0, .inr (1, [.int 0, .int 0, .null, .null, .null, .null, .null, .null, .null, .null, .null, .null]))])) (va_Qv (fun (u : Nat → Nat) => u 0 = h0) (fun u => poW dC dI (tyL cI cJ) (va_A [(h0, .inr (1, [.int 0, .int 0, .null, .null, .null, .null, .null, .null, .null, .null, .null, .null]))] sz) (w2 u cI (th0 k) 0 (fun _ => 0) (fun _ => 0) (fun _ => 0) (fun _ => 0) (fun _ => 0) (fun _ => 0) (fun _ => 0) (fun _ => 0) (fun _ => 0) (fun _ => 0))) (va_A [(h0, .inr (1, [.int 0, .int 0, .null, .null, .null, .null, .null, .null, .null, .null, .null, .null]))] sz)) 10 216 (va_A [(h0, .inr (1, [.int 0, .int 0, .null, .null, .null, .null, .null, .null, .null, .null, .null, .null]))] sz) := by
  refine n_met (by decide) (Nat.le_of_ble_eq_true rfl) ?_
  intro p e s m below meth c ls SF hr hlocks hnm hsz hK hP hD hA hl
  subst hsz
  have hS : va_S (va_A [(h0, .inr (1, [.int 0, .int 0, .null, .null, .null, .null, .null, .null, .null, .null, .null, .null]))] s.heap.size) s.heap s.heap [] := va_S.rf
  generalize va_A [(h0, .inr (1, [.int 0, .int 0, .null, .null, .null, .null, .null, .null, .null, .null, .null, .null]))] s.heap.size = A at hD hA hS ⊢
  obtain ⟨hx, hb, hml, hown, hts⟩ := id SF
  have hown : s.vm.findClass RX2 = some m.cls := hown
  have SF : CallFix p m c cX2_init 2 s _ lw_all RX2 := SF
  have hl : lv_has ls 2 [(0, .ref h0), (1, .int k)] := hl
  have hin : meth.name = "<init>" := hnm
  refine lv_aload_n hx hb dX2_init_0 rfl (lv_at hl 0 rfl) ?_
  refine W.objInit hx hb hown (hts _ q182) (hts _ q24) (hts _ q25) rfl (by rw [hml]; exact hl.1) rfl dX2_init_1 (Nat.le_of_ble_eq_true rfl) (Nat.le_of_ble_eq_true rfl) ?_
  refine W.eq (g2 := F0 m 4 ls []) rfl ?_
  refine lv_aload_n hx hb dX2_init_4 rfl (lv_at hl 0 rfl) ?_
  refine lv_bipush (v := 32) hx hb dX2_init_5 (by decide) ?_
  refine va_newa (atype := .int) (a0 := (32, .inl (fun _ => 0))) (N' := 32) hx hb (hts _ q84) rfl hK hP hD hS hA (fun _ => rfl) (by decide) (by decide) (by decide) (Nat.le_of_ble_eq_true rfl) (Nat.le_of_ble_eq_true rfl) dX2_init_7 (fun q1 c1 H hK hP hD hS => ?_)
  have hP : va_P (dC, dI) vwCl [(h0, .inr (1, [.int 0, .int 0, .null, .null, .null, .null, .null, .null, .null, .null, .null, .null])), (q1, .inl (c1, 32, .inl (fun _ => 0)))] H := hP
  have hD : va_D A [(h0, .inr (1, [.int 0, .int 0, .null, .null, .null, .null, .null, .null, .null, .null, .null, .null])), (q1, .inl (c1, 32, .inl (fun _ => 0)))] := hD
  have hK : va_K (dC, dI) vwCl [(cI, .int), (cJ, .long), (c1, .int)] s := hK
  refine va_putF (D := (dC, dI)) (ci := 1) (v := .ref q1) (ty := .array .int) (C := RX2) (T := TX2) (N := 12) hx hb hts in_X2 tyX2 tyX2_ok nmX2 hown hK hP hD hS 0 rfl rfl 2 (by decide) (hts _ q185) (fun _ h9 => h9) rfl hin rfl (by decide +kernel) rfl rfl (Nat.le_of_ble_eq_true rfl) dX2_init_9 (fun H locs hP hD hS => ?_)
  have hP : va_P (dC, dI) vwCl [(h0, .inr (1, [.int 0, .int 0, .ref q1, .null, .null, .null, .null, .null, .null, .null, .null, .null])), (q1, .inl (c1, 32, .inl (fun _ => 0)))] H := hP
  have hD : va_D A [(h0, .inr (1, [.int 0, .int 0, .ref q1, .null, .null, .null, .null, .null, .null, .null, .null, .null])), (q1, .inl (c1, 32, .inl (fun _ => 0)))] := hD
  refine lv_aload_n hx hb dX2_init_12 rfl (lv_at hl 0 rfl) ?_
  refine lv_bipush (v := 32) hx hb dX2_init_13 (by decide) ?_
  refine va_newa (atype := .int) (a0 := (32, .inl (fun _ => 0))) (N' := 32) hx hb (hts _ q84) rfl hK hP hD hS hA (fun _ => rfl) (by decide) (by decide) (by decide) (Nat.le_of_ble_eq_true rfl) (Nat.le_of_ble_eq_true rfl) dX2_init_15 (fun q2 c2 H hK hP hD hS => ?_)
  have hP : va_P (dC, dI) vwCl [(h0, .inr (1, [.int 0, .int 0, .ref q1, .null, .null, .null, .null, .null, .null, .null, .null, .null])), (q1, .inl (c1, 32, .inl (fun _ => 0))), (q2, .inl (c2, 32, .inl (fun _ => 0)))] H := hP
  have hD : va_D A [(h0, .inr (1, [.int 0, .int 0, .ref q1, .null, .null, .null, .null, .null, .null, .null, .null, .null])), (q1, .inl (c1, 32, .inl (fun _ => 0))), (q2, .inl (c2, 32, .inl (fun _ => 0)))] := hD
  have hK : va_K (dC, dI) vwCl [(cI, .int), (cJ, .long), (c1, .int), (c2, .int)] s := hK
  refine va_putF (D := (dC, dI)) (ci := 1) (v := .ref q2) (ty := .array .int) (C := RX2) (T := TX2) (N := 12) hx hb hts in_X2 tyX2 tyX2_ok nmX2 hown hK hP hD hS 0 rfl rfl 3 (by decide) (hts _ q186) (fun _ h9 => h9) rfl hin rfl (by decide +kernel) rfl rfl (Nat.le_of_ble_eq_true rfl) dX2_init_17 (fun H locs hP hD hS => ?_)
  have hP : va_P (dC, dI) vwCl [(h0, .inr (1, [.int 0, .int 0, .ref q1, .ref q2, .null, .null, .null, .null, .null, .null, .null, .null])), (q1, .inl (c1, 32, .inl (fun _ => 0))), (q2, .inl (c2, 32, .inl (fun _ => 0)))] H := hP
  have hD : va_D A [(h0, .inr (1, [.int 0, .int 0, .ref q1, .ref q2, .null, .null, .null, .null, .null, .null, .null, .null])), (q1, .inl (c1, 32, .inl (fun _ => 0))), (q2, .inl (c2, 32, .inl (fun _ => 0)))] := hD
  refine lv_aload_n hx hb dX2_init_20 rfl (lv_at hl 0 rfl) ?_
  refine lv_bipush (v := 32) hx hb dX2_init_21 (by decide) ?_
  refine va_newa (atype := .int) (a0 := (32, .inl (fun _ => 0))) (N' := 32) hx hb (hts _ q84) rfl hK hP hD hS hA (fun _ => rfl) (by decide) (by decide) (by decide) (Nat.le_of_ble_eq_true rfl) (Nat.le_of_ble_eq_true rfl) dX2_init_23 (fun q3 c3 H hK hP hD hS => ?_)
  have hP : va_P (dC, dI) vwCl [(h0, .inr (1, [.int 0, .int 0, .ref q1, .ref q2, .null, .null, .null, .null, .null, .null, .null, .null])), (q1, .inl (c1, 32, .inl (fun _ => 0))), (q2, .inl (c2, 32, .inl (fun _ => 0))), (q3, .inl (c3, 32, .inl (fun _ => 0)))] H := hP
  have hD : va_D A [(h0, .inr (1, [.int 0, .int 0, .ref q1, .ref q2, .null, .null, .null, .null, .null, .null, .null, .null])), (q1, .inl (c1, 32, .inl (fun _ => 0))), (q2, .inl (c2, 32, .inl (fun _ => 0))), (q3, .inl (c3, 32, .inl (fun _ => 0)))] := hD
  have hK : va_K (dC, dI) vwCl [(cI, .int), (cJ, .long), (c1, .int), (c2, .int), (c3, .int)] s := hK
  refine va_putF (D := (dC, dI)) (ci := 1) (v := .ref q3) (ty := .array .int) (C := RX2) (T := TX2) (N := 12) hx hb hts in_X2 tyX2 tyX2_ok nmX2 hown hK hP hD hS 0 rfl rfl 4 (by decide) (hts _ q187) (fun _ h9 => h9) rfl hin rfl (by decide +kernel) rfl rfl (Nat.le_of_ble_eq_true rfl) dX2_init_25 (fun H locs hP hD hS => ?_)
  have hP : va_P (dC, dI) vwCl [(h0, .inr (1, [.int 0, .int 0, .ref q1, .ref q2, .ref q3, .null, .null, .null, .null, .null, .null, .null])), (q1, .inl (c1, 32, .inl (fun _ => 0))), (q2, .inl (c2, 32, .inl (fun _ => 0))), (q3, .inl (c3, 32, .inl (fun _ => 0)))] H := hP
  have hD : va_D A [(h0, .inr (1, [.int 0, .int 0, .ref q1, .ref q2, .ref q3, .null, .null, .null, .null, .null, .null, .null])), (q1, .inl (c1, 32, .inl (fun _ => 0))), (q2, .inl (c2, 32, .inl (fun _ => 0))), (q3, .inl (c3, 32, .inl (fun _ => 0)))] := hD
  refine lv_aload_n hx hb dX2_init_28 rfl (lv_at hl 0 rfl) ?_
  refine lv_bipush (v := 32) hx hb dX2_init_29 (by decide) ?_
  refine va_newa (atype := .int) (a0 := (32, .inl (fun _ => 0))) (N' := 32) hx hb (hts _ q84) rfl hK hP hD hS hA (fun _ => rfl) (by decide) (by decide) (by decide) (Nat.le_of_ble_eq_true rfl) (Nat.le_of_ble_eq_true rfl) dX2_init_31 (fun q4 c4 H hK hP hD hS => ?_)
  have hP : va_P (dC, dI) vwCl [(h0, .inr (1, [.int 0, .int 0, .ref q1, .ref q2, .ref q3, .null, .null, .null, .null, .null, .null, .null])), (q1, .inl (c1, 32, .inl (fun _ => 0))), (q2, .inl (c2, 32, .inl (fun _ => 0))), (q3, .inl (c3, 32, .inl (fun _ => 0))), (q4, .inl (c4, 32, .inl (fun _ => 0)))] H := hP
  have hD : va_D A [(h0, .inr (1, [.int 0, .int 0, .ref q1, .ref q2, .ref q3, .null, .null, .null, .null, .null, .null, .null])), (q1, .inl (c1, 32, .inl (fun _ => 0))), (q2, .inl (c2, 32, .inl (fun _ => 0))), (q3, .inl (c3, 32, .inl (fun _ => 0))), (q4, .inl (c4, 32, .inl (fun _ => 0)))] := hD
  have hK : va_K (dC, dI) vwCl [(cI, .int), (cJ, .long), (c1, .int), (c2, .int), (c3, .int), (c4, .int)] s := hK
  refine va_putF (D := (dC, dI)) (ci := 1) (v := .ref q4) (ty := .array .int) (C := RX2) (T := TX2) (N := 12) hx hb hts in_X2 tyX2 tyX2_ok nmX2 hown hK hP hD hS 0 rfl rfl 5 (by decide) (hts _ q188) (fun _ h9 => h9) rfl hin rfl (by decide +kernel) rfl rfl (Nat.le_of_ble_eq_true rfl) dX2_init_33 (fun H locs hP hD hS => ?_)
  have hP : va_P (dC, dI) vwCl [(h0, .inr (1, [.int 0, .int 0, .ref q1, .ref q2, .ref q3, .ref q4, .null, .null, .null, .null, .null, .null])), (q1, .inl (c1, 32, .inl (fun _ => 0))), (q2, .inl (c2, 32, .inl (fun _ => 0))), (q3, .inl (c3, 32, .inl (fun _ => 0))), (q4, .inl (c4, 32, .inl (fun _ => 0)))] H := hP
  have hD : va_D A [(h0, .inr (1, [.int 0, .int 0, .ref q1, .ref q2, .ref q3, .ref q4, .null, .null, .null, .null, .null, .null])), (q1, .inl (c1, 32, .inl (fun _ => 0))), (q2, .inl (c2, 32, .inl (fun _ => 0))), (q3, .inl (c3, 32, .inl (fun _ => 0))), (q4, .inl (c4, 32, .inl (fun _ => 0)))] := hD
  refine lv_aload_n hx hb dX2_init_36 rfl (lv_at hl 0 rfl) ?_
  refine lv_bipush (v := 16) hx hb dX2_init_37 (by decide) ?_
  refine va_newa (atype := .int) (a0 := (16, .inl (fun _ => 0))) (N' := 16) hx hb (hts _ q84) rfl hK hP hD hS hA (fun _ => rfl) (by decide) (by decide) (by decide) (Nat.le_of_ble_eq_true rfl) (Nat.le_of_ble_eq_true rfl) dX2_init_39 (fun q5 c5 H hK hP hD hS => ?_)
  have hP : va_P (dC, dI) vwCl [(h0, .inr (1, [.int 0, .int 0, .ref q1, .ref q2, .ref q3, .ref q4, .null, .null, .null, .null, .null, .null])), (q1, .inl (c1, 32, .inl (fun _ => 0))), (q2, .inl (c2, 32, .inl (fun _ => 0))), (q3, .inl (c3, 32, .inl (fun _ => 0))), (q4, .inl (c4, 32, .inl (fun _ => 0))), (q5, .inl (c5, 16, .inl (fun _ => 0)))] H := hP
  have hD : va_D A [(h0, .inr (1, [.int 0, .int 0, .ref q1, .ref q2, .ref q3, .ref q4, .null, .null, .null, .null, .null, .null])), (q1, .inl (c1, 32, .inl (fun _ => 0))), (q2, .inl (c2, 32, .inl (fun _ => 0))), (q3, .inl (c3, 32, .inl (fun _ => 0))), (q4, .inl (c4, 32, .inl (fun _ => 0))), (q5, .inl (c5, 16, .inl (fun _ => 0)))] := hD
  have hK : va_K (dC, dI) vwCl [(cI, .int), (cJ, .long), (c1, .int), (c2, .int), (c3, .int), (c4, .int), (c5, .int)] s := hK
  refine va_putF (D := (dC, dI)) (ci := 1) (v := .ref q5) (ty := .array .int) (C := RX2) (T := TX2) (N := 12) hx hb hts in_X2 tyX2 tyX2_ok nmX2 hown hK hP hD hS 0 rfl rfl 6 (by decide) (hts _ q189) (fun _ h9 => h9) rfl hin rfl (by decide +kernel) rfl rfl (Nat.le_of_ble_eq_true rfl) dX2_init_41 (fun H locs hP hD hS => ?_)
  have hP : va_P (dC, dI) vwCl [(h0, .inr (1, [.int 0, .int 0, .ref q1, .ref q2, .ref q3, .ref q4, .ref q5, .null, .null, .null, .null, .null])), (q1, .inl (c1, 32, .inl (fun _ => 0))), (q2, .inl (c2, 32, .inl (fun _ => 0))), (q3, .inl (c3, 32, .inl (fun _ => 0))), (q4, .inl (c4, 32, .inl (fun _ => 0))), (q5, .inl (c5, 16, .inl (fun _ => 0)))] H := hP
  have hD : va_D A [(h0, .inr (1, [.int 0, .int 0, .ref q1, .ref q2, .ref q3, .ref q4, .ref q5, .null, .null, .null, .null, .null])), (q1, .inl (c1, 32, .inl (fun _ => 0))), (q2, .inl (c2, 32, .inl (fun _ => 0))), (q3, .inl (c3, 32, .inl (fun _ => 0))), (q4, .inl (c4, 32, .inl (fun _ => 0))), (q5, .inl (c5, 16, .inl (fun _ => 0)))] := hD
  refine lv_aload_n hx hb dX2_init_44 rfl (lv_at hl 0 rfl) ?_
  refine lv_bipush (v := 16) hx hb dX2_init_45 (by decide) ?_
  refine va_newa (atype := .int) (a0 := (16, .inl (fun _ => 0))) (N' := 16) hx hb (hts _ q84) rfl hK hP hD hS hA (fun _ => rfl) (by decide) (by decide) (by decide) (Nat.le_of_ble_eq_true rfl) (Nat.le_of_ble_eq_true rfl) dX2_init_47 (fun q6 c6 H hK hP hD hS => ?_)
  have hP : va_P (dC, dI) vwCl [(h0, .inr (1, [.int 0, .int 0, .ref q1, .ref q2, .ref q3, .ref q4, .ref q5, .null, .null, .null, .null, .null])), (q1, .inl (c1, 32, .inl (fun _ => 0))), (q2, .inl (c2, 32, .inl (fun _ => 0))), (q3, .inl (c3, 32, .inl (fun _ => 0))), (q4, .inl (c4, 32, .inl (fun _ => 0))), (q5, .inl (c5, 16, .inl (fun _ => 0))), (q6, .inl (c6, 16, .inl (fun _ => 0)))] H := hP
  have hD : va_D A [(h0, .inr (1, [.int 0, .int 0, .ref q1, .ref q2, .ref q3, .ref q4, .ref q5, .null, .null, .null, .null, .null])), (q1, .inl (c1, 32, .inl (fun _ => 0))), (q2, .inl (c2, 32, .inl (fun _ => 0))), (q3, .inl (c3, 32, .inl (fun _ => 0))), (q4, .inl (c4, 32, .inl (fun _ => 0))), (q5, .inl (c5, 16, .inl (fun _ => 0))), (q6, .inl (c6, 16, .inl (fun _ => 0)))] := hD
  have hK : va_K (dC, dI) vwCl [(cI, .int), (cJ, .long), (c1, .int), (c2, .int), (c3, .int), (c4, .int), (c5, .int), (c6, .int)] s := hK
  refine va_putF (D := (dC, dI)) (ci := 1) (v := .ref q6) (ty := .array .int) (C := RX2) (T := TX2) (N := 12) hx hb hts in_X2 tyX2 tyX2_ok nmX2 hown hK hP hD hS 0 rfl rfl 7 (by decide) (hts _ q190) (fun _ h9 => h9) rfl hin rfl (by decide +kernel) rfl rfl (Nat.le_of_ble_eq_true rfl) dX2_init_49 (fun H locs hP hD hS => ?_)
  have hP : va_P (dC, dI) vwCl [(h0, .inr (1, [.int 0, .int 0, .ref q1, .ref q2, .ref q3, .ref q4, .ref q5, .ref q6, .null, .null, .null, .null])), (q1, .inl (c1, 32, .inl (fun _ => 0))), (q2, .inl (c2, 32, .inl (fun _ => 0))), (q3, .inl (c3, 32, .inl (fun _ => 0))), (q4, .inl (c4, 32, .inl (fun _ => 0))), (q5, .inl (c5, 16, .inl (fun _ => 0))), (q6, .inl (c6, 16, .inl (fun _ => 0)))] H := hP
  have hD : va_D A [(h0, .inr (1, [.int 0, .int 0, .ref q1, .ref q2, .ref q3, .ref q4, .ref q5, .ref q6, .null, .null, .null, .null])), (q1, .inl (c1, 32, .inl (fun _ => 0))), (q2, .inl (c2, 32, .inl (fun _ => 0))), (q3, .inl (c3, 32, .inl (fun _ => 0))), (q4, .inl (c4, 32, .inl (fun _ => 0))), (q5, .inl (c5, 16, .inl (fun _ => 0))), (q6, .inl (c6, 16, .inl (fun _ => 0)))] := hD
  refine lv_aload_n hx hb dX2_init_52 rfl (lv_at hl 0 rfl) ?_
  refine lv_bipush (v := 32) hx hb dX2_init_53 (by decide) ?_
  refine va_newa (atype := .int) (a0 := (32, .inl (fun _ => 0))) (N' := 32) hx hb (hts _ q84) rfl hK hP hD hS hA (fun _ => rfl) (by decide) (by decide) (by decide) (Nat.le_of_ble_eq_true rfl) (Nat.le_of_ble_eq_true rfl) dX2_init_55 (fun q7 c7 H hK hP hD hS => ?_)
  have hP : va_P (dC, dI) vwCl [(h0, .inr (1, [.int 0, .int 0, .ref q1, .ref q2, .ref q3, .ref q4, .ref q5, .ref q6, .null, .null, .null, .null])), (q1, .inl (c1, 32, .inl (fun _ => 0))), (q2, .inl (c2, 32, .inl (fun _ => 0))), (q3, .inl (c3, 32, .inl (fun _ => 0))), (q4, .inl (c4, 32, .inl (fun _ => 0))), (q5, .inl (c5, 16, .inl (fun _ => 0))), (q6, .inl (c6, 16, .inl (fun _ => 0))), (q7, .inl (c7, 32, .inl (fun _ => 0)))] H := hP
  have hD : va_D A [(h0, .inr (1, [.int 0, .int 0, .ref q1, .ref q2, .ref q3, .ref q4, .ref q5, .ref q6, .null, .null, .null, .null])), (q1, .inl (c1, 32, .inl (fun _ => 0))), (q2, .inl (c2, 32, .inl (fun _ => 0))), (q3, .inl (c3, 32, .inl (fun _ => 0))), (q4, .inl (c4, 32, .inl (fun _ => 0))), (q5, .inl (c5, 16, .inl (fun _ => 0))), (q6, .inl (c6, 16, .inl (fun _ => 0))), (q7, .inl (c7, 32, .inl (fun _ => 0)))] := hD
  have hK : va_K (dC, dI) vwCl [(cI, .int), (cJ, .long), (c1, .int), (c2, .int), (c3, .int), (c4, .int), (c5, .int), (c6, .int), (c7, .int)] s := hK
  refine va_putF (D := (dC, dI)) (ci := 1) (v := .ref q7) (ty := .array .int) (C := RX2) (T := TX2) (N := 12) hx hb hts in_X2 tyX2 tyX2_ok nmX2 hown hK hP hD hS 0 rfl rfl 8 (by decide) (hts _ q191) (fun _ h9 => h9) rfl hin rfl (by decide +kernel) rfl rfl (Nat.le_of_ble_eq_true rfl) dX2_init_57 (fun H locs hP hD hS => ?_)
  have hP : va_P (dC, dI) vwCl [(h0, .inr (1, [.int 0, .int 0, .ref q1, .ref q2, .ref q3, .ref q4, .ref q5, .ref q6, .ref q7, .null, .null, .null])), (q1, .inl (c1, 32, .inl (fun _ => 0))), (q2, .inl (c2, 32, .inl (fun _ => 0))), (q3, .inl (c3, 32, .inl (fun _ => 0))), (q4, .inl (c4, 32, .inl (fun _ => 0))), (q5, .inl (c5, 16, .inl (fun _ => 0))), (q6, .inl (c6, 16, .inl (fun _ => 0))), (q7, .inl (c7, 32, .inl (fun _ => 0)))] H := hP
  have hD : va_D A [(h0, .inr (1, [.int 0, .int 0, .ref q1, .ref q2, .ref q3, .ref q4, .ref q5, .ref q6, .ref q7, .null, .null, .null])), (q1, .inl (c1, 32, .inl (fun _ => 0))), (q2, .inl (c2, 32, .inl (fun _ => 0))), (q3, .inl (c3, 32, .inl (fun _ => 0))), (q4, .inl (c4, 32, .inl (fun _ => 0))), (q5, .inl (c5, 16, .inl (fun _ => 0))), (q6, .inl (c6, 16, .inl (fun _ => 0))), (q7, .inl (c7, 32, .inl (fun _ => 0)))] := hD
  refine lv_aload_n hx hb dX2_init_60 rfl (lv_at hl 0 rfl) ?_
  refine lv_bipush (v := 8) hx hb dX2_init_61 (by decide) ?_
  refine va_newa (atype := .int) (a0 := (8, .inl (fun _ => 0))) (N' := 8) hx hb (hts _ q84) rfl hK hP hD hS hA (fun _ => rfl) (by decide) (by decide) (by decide) (Nat.le_of_ble_eq_true rfl) (Nat.le_of_ble_eq_true rfl) dX2_init_63 (fun q8 c8 H hK hP hD hS => ?_)
  have hP : va_P (dC, dI) vwCl [(h0, .inr (1, [.int 0, .int 0, .ref q1, .ref q2, .ref q3, .ref q4, .ref q5, .ref q6, .ref q7, .null, .null, .null])), (q1, .inl (c1, 32, .inl (fun _ => 0))), (q2, .inl (c2, 32, .inl (fun _ => 0))), (q3, .inl (c3, 32, .inl (fun _ => 0))), (q4, .inl (c4, 32, .inl (fun _ => 0))), (q5, .inl (c5, 16, .inl (fun _ => 0))), (q6, .inl (c6, 16, .inl (fun _ => 0))), (q7, .inl (c7, 32, .inl (fun _ => 0))), (q8, .inl (c8, 8, .inl (fun _ => 0)))] H := hP
  have hD : va_D A [(h0, .inr (1, [.int 0, .int 0, .ref q1, .ref q2, .ref q3, .ref q4, .ref q5, .ref q6, .ref q7, .null, .null, .null])), (q1, .inl (c1, 32, .inl (fun _ => 0))), (q2, .inl (c2, 32, .inl (fun _ => 0))), (q3, .inl (c3, 32, .inl (fun _ => 0))), (q4, .inl (c4, 32, .inl (fun _ => 0))), (q5, .inl (c5, 16, .inl (fun _ => 0))), (q6, .inl (c6, 16, .inl (fun _ => 0))), (q7, .inl (c7, 32, .inl (fun _ => 0))), (q8, .inl (c8, 8, .inl (fun _ => 0)))] := hD
  have hK : va_K (dC, dI) vwCl [(cI, .int), (cJ, .long), (c1, .int), (c2, .int), (c3, .int), (c4, .int), (c5, .int), (c6, .int), (c7, .int), (c8, .int)] s := hK
  refine va_putF (D := (dC, dI)) (ci := 1) (v := .ref q8) (ty := .array .int) (C := RX2) (T := TX2) (N := 12) hx hb hts in_X2 tyX2 tyX2_ok nmX2 hown hK hP hD hS 0 rfl rfl 9 (by decide) (hts _ q192) (fun _ h9 => h9) rfl hin rfl (by decide +kernel) rfl rfl (Nat.le_of_ble_eq_true rfl) dX2_init_65 (fun H locs hP hD hS => ?_)
  have hP : va_P (dC, dI) vwCl [(h0, .inr (1, [.int 0, .int 0, .ref q1, .ref q2, .ref q3, .ref q4, .ref q5, .ref q6, .ref q7, .ref q8, .null, .null])), (q1, .inl (c1, 32, .inl (fun _ => 0))), (q2, .inl (c2, 32, .inl (fun _ => 0))), (q3, .inl (c3, 32, .inl (fun _ => 0))), (q4, .inl (c4, 32, .inl (fun _ => 0))), (q5, .inl (c5, 16, .inl (fun _ => 0))), (q6, .inl (c6, 16, .inl (fun _ => 0))), (q7, .inl (c7, 32, .inl (fun _ => 0))), (q8, .inl (c8, 8, .inl (fun _ => 0)))] H := hP
  have hD : va_D A [(h0, .inr (1, [.int 0, .int 0, .ref q1, .ref q2, .ref q3, .ref q4, .ref q5, .ref q6, .ref q7, .ref q8, .null, .null])), (q1, .inl (c1, 32, .inl (fun _ => 0))), (q2, .inl (c2, 32, .inl (fun _ => 0))), (q3, .inl (c3, 32, .inl (fun _ => 0))), (q4, .inl (c4, 32, .inl (fun _ => 0))), (q5, .inl (c5, 16, .inl (fun _ => 0))), (q6, .inl (c6, 16, .inl (fun _ => 0))), (q7, .inl (c7, 32, .inl (fun _ => 0))), (q8, .inl (c8, 8, .inl (fun _ => 0)))] := hD
  refine lv_aload_n hx hb dX2_init_68 rfl (lv_at hl 0 rfl) ?_
  refine lv_bipush (v := 8) hx hb dX2_init_69 (by decide) ?_
  refine va_newa (atype := .int) (a0 := (8, .inl (fun _ => 0))) (N' := 8) hx hb (hts _ q84) rfl hK hP hD hS hA (fun _ => rfl) (by decide) (by decide) (by decide) (Nat.le_of_ble_eq_true rfl) (Nat.le_of_ble_eq_true rfl) dX2_init_71 (fun q9 c9 H hK hP hD hS => ?_)
  have hP : va_P (dC, dI) vwCl [(h0, .inr (1, [.int 0, .int 0, .ref q1, .ref q2, .ref q3, .ref q4, .ref q5, .ref q6, .ref q7, .ref q8, .null, .null])), (q1, .inl (c1, 32, .inl (fun _ => 0))), (q2, .inl (c2, 32, .inl (fun _ => 0))), (q3, .inl (c3, 32, .inl (fun _ => 0))), (q4, .inl (c4, 32, .inl (fun _ => 0))), (q5, .inl (c5, 16, .inl (fun _ => 0))), (q6, .inl (c6, 16, .inl (fun _ => 0))), (q7, .inl (c7, 32, .inl (fun _ => 0))), (q8, .inl (c8, 8, .inl (fun _ => 0))), (q9, .inl (c9, 8, .inl (fun _ => 0)))] H := hP
  have hD : va_D A [(h0, .inr (1, [.int 0, .int 0, .ref q1, .ref q2, .ref q3, .ref q4, .ref q5, .ref q6, .ref q7, .ref q8, .null, .null])), (q1, .inl (c1, 32, .inl (fun _ => 0))), (q2, .inl (c2, 32, .inl (fun _ => 0))), (q3, .inl (c3, 32, .inl (fun _ => 0))), (q4, .inl (c4, 32, .inl (fun _ => 0))), (q5, .inl (c5, 16, .inl (fun _ => 0))), (q6, .inl (c6, 16, .inl (fun _ => 0))), (q7, .inl (c7, 32, .inl (fun _ => 0))), (q8, .inl (c8, 8, .inl (fun _ => 0))), (q9, .inl (c9, 8, .inl (fun _ => 0)))] := hD
  have hK : va_K (dC, dI) vwCl [(cI, .int), (cJ, .long), (c1, .int), (c2, .int), (c3, .int), (c4, .int), (c5, .int), (c6, .int), (c7, .int), (c8, .int), (c9, .int)] s := hK
  refine va_putF (D := (dC, dI)) (ci := 1) (v := .ref q9) (ty := .array .int) (C := RX2) (T := TX2) (N := 12) hx hb hts in_X2 tyX2 tyX2_ok nmX2 hown hK hP hD hS 0 rfl rfl 10 (by decide) (hts _ q193) (fun _ h9 => h9) rfl hin rfl (by decide +kernel) rfl rfl (Nat.le_of_ble_eq_true rfl) dX2_init_73 (fun H locs hP hD hS => ?_)
  have hP : va_P (dC, dI) vwCl [(h0, .inr (1, [.int 0, .int 0, .ref q1, .ref q2, .ref q3, .ref q4, .ref q5, .ref q6, .ref q7, .ref q8, .ref q9, .null])), (q1, .inl (c1, 32, .inl (fun _ => 0))), (q2, .inl (c2, 32, .inl (fun _ => 0))), (q3, .inl (c3, 32, .inl (fun _ => 0))), (q4, .inl (c4, 32, .inl (fun _ => 0))), (q5, .inl (c5, 16, .inl (fun _ => 0))), (q6, .inl (c6, 16, .inl (fun _ => 0))), (q7, .inl (c7, 32, .inl (fun _ => 0))), (q8, .inl (c8, 8, .inl (fun _ => 0))), (q9, .inl (c9, 8, .inl (fun _ => 0)))] H := hP
  have hD : va_D A [(h0, .inr (1, [.int 0, .int 0, .ref q1, .ref q2, .ref q3, .ref q4, .ref q5, .ref q6, .ref q7, .ref q8, .ref q9, .null])), (q1, .inl (c1, 32, .inl (fun _ => 0))), (q2, .inl (c2, 32, .inl (fun _ => 0))), (q3, .inl (c3, 32, .inl (fun _ => 0))), (q4, .inl (c4, 32, .inl (fun _ => 0))), (q5, .inl (c5, 16, .inl (fun _ => 0))), (q6, .inl (c6, 16, .inl (fun _ => 0))), (q7, .inl (c7, 32, .inl (fun _ => 0))), (q8, .inl (c8, 8, .inl (fun _ => 0))), (q9, .inl (c9, 8, .inl (fun _ => 0)))] := hD
  refine lv_aload_n hx hb dX2_init_76 rfl (lv_at hl 0 rfl) ?_
  refine lv_bipush (v := 8) hx hb dX2_init_77 (by decide) ?_
  refine va_newa (atype := .int) (a0 := (8, .inl (fun _ => 0))) (N' := 8) hx hb (hts _ q84) rfl hK hP hD hS hA (fun _ => rfl) (by decide) (by decide) (by decide) (Nat.le_of_ble_eq_true rfl) (Nat.le_of_ble_eq_true rfl) dX2_init_79 (fun q10 c10 H hK hP hD hS => ?_)
  have hP : va_P (dC, dI) vwCl [(h0, .inr (1, [.int 0, .int 0, .ref q1, .ref q2, .ref q3, .ref q4, .ref q5, .ref q6, .ref q7, .ref q8, .ref q9, .null])), (q1, .inl (c1, 32, .inl (fun _ => 0))), (q2, .inl (c2, 32, .inl (fun _ => 0))), (q3, .inl (c3, 32, .inl (fun _ => 0))), (q4, .inl (c4, 32, .inl (fun _ => 0))), (q5, .inl (c5, 16, .inl (fun _ => 0))), (q6, .inl (c6, 16, .inl (fun _ => 0))), (q7, .inl (c7, 32, .inl (fun _ => 0))), (q8, .inl (c8, 8, .inl (fun _ => 0))), (q9, .inl (c9, 8, .inl (fun _ => 0))), (q10, .inl (c10, 8, .inl (fun _ => 0)))] H := hP
  have hD : va_D A [(h0, .inr (1, [.int 0, .int 0, .ref q1, .ref q2, .ref q3, .ref q4, .ref q5, .ref q6, .ref q7, .ref q8, .ref q9, .null])), (q1, .inl (c1, 32, .inl (fun _ => 0))), (q2, .inl (c2, 32, .inl (fun _ => 0))), (q3, .inl (c3, 32, .inl (fun _ => 0))), (q4, .inl (c4, 32, .inl (fun _ => 0))), (q5, .inl (c5, 16, .inl (fun _ => 0))), (q6, .inl (c6, 16, .inl (fun _ => 0))), (q7, .inl (c7, 32, .inl (fun _ => 0))), (q8, .inl (c8, 8, .inl (fun _ => 0))), (q9, .inl (c9, 8, .inl (fun _ => 0))), (q10, .inl (c10, 8, .inl (fun _ => 0)))] := hD
  have hK : va_K (dC, dI) vwCl [(cI, .int), (cJ, .long), (c1, .int), (c2, .int), (c3, .int), (c4, .int), (c5, .int), (c6, .int), (c7, .int), (c8, .int), (c9, .int), (c10, .int)] s := hK
  refine va_putF (D := (dC, dI)) (ci := 1) (v := .ref q10) (ty := .array .int) (C := RX2) (T := TX2) (N := 12) hx hb hts in_X2 tyX2 tyX2_ok nmX2 hown hK hP hD hS 0 rfl rfl 11 (by decide) (hts _ q194) (fun _ h9 => h9) rfl hin rfl (by decide +kernel) rfl rfl (Nat.le_of_ble_eq_true rfl) dX2_init_81 (fun H locs hP hD hS => ?_)
  have hP : va_P (dC, dI) vwCl [(h0, .inr (1, [.int 0, .int 0, .ref q1, .ref q2, .ref q3, .ref q4, .ref q5, .ref q6, .ref q7, .ref q8, .ref q9, .ref q10])), (q1, .inl (c1, 32, .inl (fun _ => 0))), (q2, .inl (c2, 32, .inl (fun _ => 0))), (q3, .inl (c3, 32, .inl (fun _ => 0))), (q4, .inl (c4, 32, .inl (fun _ => 0))), (q5, .inl (c5, 16, .inl (fun _ => 0))), (q6, .inl (c6, 16, .inl (fun _ => 0))), (q7, .inl (c7, 32, .inl (fun _ => 0))), (q8, .inl (c8, 8, .inl (fun _ => 0))), (q9, .inl (c9, 8, .inl (fun _ => 0))), (q10, .inl (c10, 8, .inl (fun _ => 0)))] H := hP
  have hD : va_D A [(h0, .inr (1, [.int 0, .int 0, .ref q1, .ref q2, .ref q3, .ref q4, .ref q5, .ref q6, .ref q7, .ref q8, .ref q9, .ref q10])), (q1, .inl (c1, 32, .inl (fun _ => 0))), (q2, .inl (c2, 32, .inl (fun _ => 0))), (q3, .inl (c3, 32, .inl (fun _ => 0))), (q4, .inl (c4, 32, .inl (fun _ => 0))), (q5, .inl (c5, 16, .inl (fun _ => 0))), (q6, .inl (c6, 16, .inl (fun _ => 0))), (q7, .inl (c7, 32, .inl (fun _ => 0))), (q8, .inl (c8, 8, .inl (fun _ => 0))), (q9, .inl (c9, 8, .inl (fun _ => 0))), (q10, .inl (c10, 8, .inl (fun _ => 0)))] := hD
  have e_c1 : c1 = cI := z_cls hK (i := 2) (j := 0) rfl rfl
  have e_c2 : c2 = cI := z_cls hK (i := 3) (j := 0) rfl rfl
  have e_c3 : c3 = cI := z_cls hK (i := 4) (j := 0) rfl rfl
  have e_c4 : c4 = cI := z_cls hK (i := 5) (j := 0) rfl rfl
  have e_c5 : c5 = cI := z_cls hK (i := 6) (j := 0) rfl rfl
  have e_c6 : c6 = cI := z_cls hK (i := 7) (j := 0) rfl rfl
  have e_c7 : c7 = cI := z_cls hK (i := 8) (j := 0) rfl rfl
  have e_c8 : c8 = cI := z_cls hK (i := 9) (j := 0) rfl rfl
  have e_c9 : c9 = cI := z_cls hK (i := 10) (j := 0) rfl rfl
  have e_c10 : c10 = cI := z_cls hK (i := 11) (j := 0) rfl rfl
  rw [e_c1] at hP hD
  rw [e_c2] at hP hD
  rw [e_c3] at hP hD
  rw [e_c4] at hP hD
  rw [e_c5] at hP hD
  rw [e_c6] at hP hD
  rw [e_c7] at hP hD
  rw [e_c8] at hP hD
  rw [e_c9] at hP hD
  rw [e_c10] at hP hD
  refine lv_aload_n hx hb dX2_init_84 rfl (lv_at hl 0 rfl) ?_
  refine lv_iload_n hx hb dX2_init_85 rfl (lv_at hl 1 rfl) ?_
  refine lv_iconst (v := 1) hx hb dX2_init_86 (by decide) ?_
  refine lv_icmp_ge (tgt := 94) hx hb dX2_init_87 (by decide) (fun cq1 => ?_) (fun cq1 => ?_)
  · refine lv_iload_n hx hb dX2_init_94 rfl (lv_at hl 1 rfl) ?_
    refine lv_bipush (v := 8) hx hb dX2_init_95 (by decide) ?_
    refine lv_icmp_le (tgt := 105) hx hb dX2_init_97 (by decide) (fun cq2 => ?_) (fun cq2 => ?_)
    · refine lv_iload_n hx hb dX2_init_105 rfl (lv_at hl 1 rfl) ?_
      refine va_put (D := (dC, dI)) (ci := 1) (v := .int k) (ty := .int) (C := RX2) (T := TX2) (N := 12) hx hb hts in_X2 tyX2 tyX2_ok nmX2 hown hK hP hD hS 0 rfl rfl 0 (by decide) (hts _ q183) (fun _ h9 => h9) rfl (by decide +kernel) rfl rfl (Nat.le_of_ble_eq_true rfl) dX2_init_106 (fun H locs hP hD hS => ?_)
      have ev : th0 k = k := by unfold th0; rw [if_neg (Int32.not_lt.mpr cq1), if_neg (Int32.not_lt.mpr cq2)]
      have hP : va_P (dC, dI) vwCl [(h0, .inr (1, [.int k, .int 0, .ref q1, .ref q2, .ref q3, .ref q4, .ref q5, .ref q6, .ref q7, .ref q8, .ref q9, .ref q10])), (q1, .inl (cI, 32, .inl (fun _ => 0))), (q2, .inl (cI, 32, .inl (fun _ => 0))), (q3, .inl (cI, 32, .inl (fun _ => 0))), (q4, .inl (cI, 32, .inl (fun _ => 0))), (q5, .inl (cI, 16, .inl (fun _ => 0))), (q6, .inl (cI, 16, .inl (fun _ => 0))), (q7, .inl (cI, 32, .inl (fun _ => 0))), (q8, .inl (cI, 8, .inl (fun _ => 0))), (q9, .inl (cI, 8, .inl (fun _ => 0))), (q10, .inl (cI, 8, .inl (fun _ => 0)))] H := hP
      have hD : va_D A [(h0, .inr (1, [.int k, .int 0, .ref q1, .ref q2, .ref q3, .ref q4, .ref q5, .ref q6, .ref q7, .ref q8, .ref q9, .ref q10])), (q1, .inl (cI, 32, .inl (fun _ => 0))), (q2, .inl (cI, 32, .inl (fun _ => 0))), (q3, .inl (cI, 32, .inl (fun _ => 0))), (q4, .inl (cI, 32, .inl (fun _ => 0))), (q5, .inl (cI, 16, .inl (fun _ => 0))), (q6, .inl (cI, 16, .inl (fun _ => 0))), (q7, .inl (cI, 32, .inl (fun _ => 0))), (q8, .inl (cI, 8, .inl (fun _ => 0))), (q9, .inl (cI, 8, .inl (fun _ => 0))), (q10, .inl (cI, 8, .inl (fun _ => 0)))] := hD
      have hK : va_K (dC, dI) vwCl (tyL cI cJ) s := hK.sub (tys' := tyL cI cJ) [0, 1] rfl
      exact W.vret hx hb hr (fun t9 h9 hW9 => ⟨⟨(fun k => ([h0, q1, q2, q3, q4, q5, q6, q7, q8, q9, q10] : List Nat).getD k 0), rfl, rfl, by rw [h9, ev]; exact hP, va_K.moved hW9.alike hK, by rw [ev]; exact hD⟩, hS.F h9⟩) hS.2.2 dX2_init_109
    · refine lv_bipush (v := 8) hx hb dX2_init_100 (by decide) ?_
      refine lv_goto (tgt := 106) hx hb dX2_init_102 (by decide) ?_
      refine va_put (D := (dC, dI)) (ci := 1) (v := .int 8) (ty := .int) (C := RX2) (T := TX2) (N := 12) hx hb hts in_X2 tyX2 tyX2_ok nmX2 hown hK hP hD hS 0 rfl rfl 0 (by decide) (hts _ q183) (fun _ h9 => h9) rfl (by decide +kernel) rfl rfl (Nat.le_of_ble_eq_true rfl) dX2_init_106 (fun H locs hP hD hS => ?_)
      have ev : th0 k = 8 := by unfold th0; rw [if_neg (Int32.not_lt.mpr cq1), if_pos (Int32.not_le.mp cq2)]
      have hP : va_P (dC, dI) vwCl [(h0, .inr (1, [.int 8, .int 0, .ref q1, .ref q2, .ref q3, .ref q4, .ref q5, .ref q6, .ref q7, .ref q8, .ref q9, .ref q10])), (q1, .inl (cI, 32, .inl (fun _ => 0))), (q2, .inl (cI, 32, .inl (fun _ => 0))), (q3, .inl (cI, 32, .inl (fun _ => 0))), (q4, .inl (cI, 32, .inl (fun _ => 0))), (q5, .inl (cI, 16, .inl (fun _ => 0))), (q6, .inl (cI, 16, .inl (fun _ => 0))), (q7, .inl (cI, 32, .inl (fun _ => 0))), (q8, .inl (cI, 8, .inl (fun _ => 0))), (q9, .inl (cI, 8, .inl (fun _ => 0))), (q10, .inl (cI, 8, .inl (fun _ => 0)))] H := hP
      have hD : va_D A [(h0, .inr (1, [.int 8, .int 0, .ref q1, .ref q2, .ref q3, .ref q4, .ref q5, .ref q6, .ref q7, .ref q8, .ref q9, .ref q10])), (q1, .inl (cI, 32, .inl (fun _ => 0))), (q2, .inl (cI, 32, .inl (fun _ => 0))), (q3, .inl (cI, 32, .inl (fun _ => 0))), (q4, .inl (cI, 32, .inl (fun _ => 0))), (q5, .inl (cI, 16, .inl (fun _ => 0))), (q6, .inl (cI, 16, .inl (fun _ => 0))), (q7, .inl (cI, 32, .inl (fun _ => 0))), (q8, .inl (cI, 8, .inl (fun _ => 0))), (q9, .inl (cI, 8, .inl (fun _ => 0))), (q10, .inl (cI, 8, .inl (fun _ => 0)))] := hD
      have hK : va_K (dC, dI) vwCl (tyL cI cJ) s := hK.sub (tys' := tyL cI cJ) [0, 1] rfl
      exact W.vret hx hb hr (fun t9 h9 hW9 => ⟨⟨(fun k => ([h0, q1, q2, q3, q4, q5, q6, q7, q8, q9, q10] : List Nat).getD k 0), rfl, rfl, by rw [h9, ev]; exact hP, va_K.moved hW9.alike hK, by rw [ev]; exact hD⟩, hS.F h9⟩) hS.2.2 dX2_init_109
  · refine lv_iconst (v := 1) hx hb dX2_init_90 (by decide) ?_
    refine lv_goto (tgt := 106) hx hb dX2_init_91 (by decide) ?_
    refine va_put (D := (dC, dI)) (ci := 1) (v := .int 1) (ty := .int) (C := RX2) (T := TX2) (N := 12) hx hb hts in_X2 tyX2 tyX2_ok nmX2 hown hK hP hD hS 0 rfl rfl 0 (by decide) (hts _ q183) (fun _ h9 => h9) rfl (by decide +kernel) rfl rfl (Nat.le_of_ble_eq_true rfl) dX2_init_106 (fun H locs hP hD hS => ?_)
    have ev : th0 k = 1 := by unfold th0; rw [if_pos (Int32.not_le.mp cq1)]
    have hP : va_P (dC, dI) vwCl [(h0, .inr (1, [.int 1, .int 0, .ref q1, .ref q2, .ref q3, .ref q4, .ref q5, .ref q6, .ref q7, .ref q8, .ref q9, .ref q10])), (q1, .inl (cI, 32, .inl (fun _ => 0))), (q2, .inl (cI, 32, .inl (fun _ => 0))), (q3, .inl (cI, 32, .inl (fun _ => 0))), (q4, .inl (cI, 32, .inl (fun _ => 0))), (q5, .inl (cI, 16, .inl (fun _ => 0))), (q6, .inl (cI, 16, .inl (fun _ => 0))), (q7, .inl (cI, 32, .inl (fun _ => 0))), (q8, .inl (cI, 8, .inl (fun _ => 0))), (q9, .inl (cI, 8, .inl (fun _ => 0))), (q10, .inl (cI, 8, .inl (fun _ => 0)))] H := hP
    have hD : va_D A [(h0, .inr (1, [.int 1, .int 0, .ref q1, .ref q2, .ref q3, .ref q4, .ref q5, .ref q6, .ref q7, .ref q8, .ref q9, .ref q10])), (q1, .inl (cI, 32, .inl (fun _ => 0))), (q2, .inl (cI, 32, .inl (fun _ => 0))), (q3, .inl (cI, 32, .inl (fun _ => 0))), (q4, .inl (cI, 32, .inl (fun _ => 0))), (q5, .inl (cI, 16, .inl (fun _ => 0))), (q6, .inl (cI, 16, .inl (fun _ => 0))), (q7, .inl (cI, 32, .inl (fun _ => 0))), (q8, .inl (cI, 8, .inl (fun _ => 0))), (q9, .inl (cI, 8, .inl (fun _ => 0))), (q10, .inl (cI, 8, .inl (fun _ => 0)))] := hD
    have hK : va_K (dC, dI) vwCl (tyL cI cJ) s := hK.sub (tys' := tyL cI cJ) [0, 1] rfl
    exact W.vret hx hb hr (fun t9 h9 hW9 => ⟨⟨(fun k => ([h0, q1, q2, q3, q4, q5, q6, q7, q8, q9, q10] : List Nat).getD k 0), rfl, rfl, by rw [h9, ev]; exact hP, va_K.moved hW9.alike hK, by rw [ev]; exact hD⟩, hS.F h9⟩) hS.2.2 dX2_init_109
end
section
/-! the warp against single threads, pure: what the loops over threads leave -/
theorem coR_at (P : PG) (o : Int32) (l : Nat) (mk : Int32) (rg : Nat → Int32) : ∀ n, (∀ t r, n ≤ t → r < 4 → coR P o l mk rg n (4 * t + r) = rg (4 * t + r)) ∧ (∀ t r, t < n → r < 4 → coR P o l mk rg n (4 * t + r) = if bt mk t = true then wkR P o t l rg (4 * t + r) else rg (4 * t + r)) := by
  intro n
  induction n with
  | zero => exact ⟨fun t r _ _ => rfl, fun t r h _ => absurd h (Nat.not_lt_zero t)⟩
  | succ n ih =>
    obtain ⟨h1, h2⟩ := ih
    by_cases hb : bt mk n = true
    · rw [← coR_t hb]
      refine ⟨fun t r ht hr => ?_, fun t r ht hr => ?_⟩
      · rw [wkR_off (by omega)]
        exact h1 t r (by omega) hr
      · rcases Nat.lt_or_ge t n with q | q
        · rw [wkR_off (by omega)]
          exact h2 t r q hr
        · have : t = n := by omega
          subst this
          rw [if_pos hb]
          exact wkR_agr (fun r hr => h1 t r (Nat.le_refl _) hr) r hr
    · have hb : bt mk n = false := by cases h : bt mk n <;> simp_all
      rw [← coR_f hb]
      refine ⟨fun t r ht hr => h1 t r (by omega) hr, fun t r ht hr => ?_⟩
      rcases Nat.lt_or_ge t n with q | q
      · exact h2 t r q hr
      · have : t = n := by omega
        subst this
        rw [if_neg (by rw [hb]; decide)]
        exact h1 t r (Nat.le_refl _) hr
theorem coR_agr (P : PG) (o : Int32) (l : Nat) (mk : Int32) (rg : Nat → Int32) {n t : Nat} (h : n ≤ t) : agr t (coR P o l mk rg n) rg := fun r hr => (coR_at P o l mk rg n).1 t r h hr
theorem coO_at (P : PG) (o : Int32) (l : Nat) (mk : Int32) (rg out : Nat → Int32) (c : Nat) : ∀ n, coO P o l mk rg out n c = out c + sm (fun t => if bt mk t = true then dlt P o t l rg c else 0) n := by
  intro n
  induction n with
  | zero =>
    show out c = out c + 0
    rw [Int32.add_zero]
  | succ n ih =>
    show _ = _ + (_ + ite _ _ _)
    by_cases hb : bt mk n = true
    · rw [← coO_t hb, wkO_dlt, ih, if_pos hb, dlt_agr (coR_agr P o l mk rg (Nat.le_refl n)) c, Int32.add_assoc]
    · have hf : bt mk n = false := by cases h : bt mk n <;> simp_all
      rw [← coO_f hf, ih, if_neg hb, Int32.add_zero]
theorem coZ_bt (P : PG) (o : Int32) (l : Nat) (mk : Int32) (rg : Nat → Int32) : ∀ n, n ≤ 32 → ∀ j, j < 32 → (bt (coZ P o l mk rg n) j = true ↔ j < n ∧ bt mk j = true ∧ rg (4 * j + m4 (P.2.1 l)) = 0) := by
  intro n
  induction n with
  | zero =>
    intro _ j hj
    show bt 0 j = true ↔ _
    rw [b_0]
    simp
  | succ n ih =>
    intro hn j hj
    have e := coR_agr P o l mk rg (Nat.le_refl n) _ (m4_lt (P.2.1 l))
    have hi := ih (by omega) j hj
    by_cases hb : bt mk n = true
    · by_cases hz : coR P o l mk rg n (4 * n + m4 (P.2.1 l)) = 0
      · rw [← coZ_y hb hz, b_or, z_one n (by omega) hj, Bool.or_eq_true, hi]
        rw [e] at hz
        constructor
        · rintro (h | h)
          · exact ⟨by omega, h.2⟩
          · have : j = n := by simpa using h
            subst this
            exact ⟨by omega, hb, hz⟩
        · rintro ⟨h1, h2, h3⟩
          by_cases q : j = n
          · right; simpa using q
          · left; exact ⟨by omega, h2, h3⟩
      · rw [← coZ_n hb hz, b_or, b_0, Bool.or_false, hi]
        rw [e] at hz
        constructor
        · rintro ⟨h1, h2, h3⟩; exact ⟨by omega, h2, h3⟩
        · rintro ⟨h1, h2, h3⟩
          by_cases q : j = n
          · subst q; exact absurd h3 hz
          · exact ⟨by omega, h2, h3⟩
    · have hf : bt mk n = false := by cases h : bt mk n <;> simp_all
      rw [← coZ_f hf, hi]
      constructor
      · rintro ⟨h1, h2, h3⟩; exact ⟨by omega, h2, h3⟩
      · rintro ⟨h1, h2, h3⟩
        by_cases q : j = n
        · subst q; exact absurd h2 hb
        · exact ⟨by omega, h2, h3⟩
theorem twZ_bt (mk : Int32) (so : Nat → Int32) : ∀ n, n ≤ 32 → ∀ j, j < 32 → (bt (twZ mk so n) j = true ↔ j < n ∧ bt mk j = true ∧ ¬ so j < 48) := by
  intro n
  induction n with
  | zero =>
    intro _ j hj
    show bt 0 j = true ↔ _
    rw [b_0]
    simp
  | succ n ih =>
    intro hn j hj
    have hi := ih (by omega) j hj
    by_cases hc : bt mk n = true ∧ ¬ so n < 48
    · rw [← twZ_y hc.1 hc.2, b_or, z_one n (by omega) hj, Bool.or_eq_true, hi]
      constructor
      · rintro (h | h)
        · exact ⟨by omega, h.2⟩
        · have : j = n := by simpa using h
          subst this
          exact ⟨by omega, hc⟩
      · rintro ⟨h1, h2⟩
        by_cases q : j = n
        · right; simpa using q
        · left; exact ⟨by omega, h2⟩
    · rw [← twZ_n hc, b_or, b_0, Bool.or_false, hi]
      constructor
      · rintro ⟨h1, h2⟩; exact ⟨by omega, h2⟩
      · rintro ⟨h1, h2⟩
        by_cases q : j = n
        · subst q; exact absurd h2 hc
        · exact ⟨by omega, h2⟩
/-! sums and counts -/
theorem sm_congr {f g : Nat → Int32} : ∀ n, (∀ t, t < n → f t = g t) → sm f n = sm g n := by
  intro n
  induction n with
  | zero => intro _; rfl
  | succ n ih =>
    intro h
    show sm f n + f n = sm g n + g n
    rw [ih (fun t ht => h t (by omega)), h n (by omega)]
theorem sm_add (f g : Nat → Int32) : ∀ n, sm (fun t => f t + g t) n = sm f n + sm g n := by
  intro n
  induction n with
  | zero => rfl
  | succ n ih =>
    show sm _ n + (f n + g n) = (sm f n + f n) + (sm g n + g n)
    rw [ih]
    ac_rfl
def sN (f : Nat → Nat) : Nat → Nat
  | 0 => 0
  | n + 1 => sN f n + f n
theorem sN_le {f g : Nat → Nat} : ∀ n, (∀ t, t < n → f t ≤ g t) → sN f n ≤ sN g n := by
  intro n
  induction n with
  | zero => intro _; exact Nat.le_refl _
  | succ n ih =>
    intro h
    show sN f n + f n ≤ sN g n + g n
    have := ih (fun t ht => h t (by omega))
    have := h n (by omega)
    omega
theorem sN_lt {f g : Nat → Nat} {j : Nat} (hj2 : f j < g j) : ∀ n, j < n → (∀ t, t < n → f t ≤ g t) → sN f n < sN g n := by
  intro n
  induction n with
  | zero => intro hj; exact absurd hj (Nat.not_lt_zero j)
  | succ n ih =>
    intro hj h
    show sN f n + f n < sN g n + g n
    have h1 := h n (by omega)
    by_cases q : j = n
    · subst q
      have := sN_le j (fun t ht => h t (by omega))
      omega
    · have := ih (by omega) (fun t ht => h t (by omega))
      omega
theorem sN_const (k : Nat) : ∀ n, sN (fun _ => k) n = k * n := by
  intro n
  induction n with
  | zero => rfl
  | succ n ih =>
    show sN _ n + k = k * (n + 1)
    rw [ih, Nat.mul_succ]
/-- how many of the first n bits are set -/
def pcn (m : Int32) (n : Nat) : Nat := sN (fun t => if bt m t = true then 1 else 0) n
theorem pcn_le {x y : Int32} {n : Nat} (h : ∀ t, t < n → bt x t = true → bt y t = true) : pcn x n ≤ pcn y n := by
  refine sN_le n (fun t ht => ?_)
  show ite _ _ _ ≤ ite _ _ _
  by_cases q : bt x t = true
  · rw [if_pos q, if_pos (h t ht q)]
    exact Nat.le_refl _
  · rw [if_neg q]
    exact Nat.zero_le _
theorem pcn_lt {x y : Int32} {n j : Nat} (h : ∀ t, t < n → bt x t = true → bt y t = true) (hj : j < n) (hy : bt y j = true) (hx : bt x j = false) : pcn x n < pcn y n := by
  refine sN_lt (j := j) ?_ n hj (fun t ht => ?_)
  · show ite _ _ _ < ite _ _ _
    rw [if_pos hy, if_neg (by rw [hx]; decide)]
    exact Nat.zero_lt_one
  · show ite _ _ _ ≤ ite _ _ _
    by_cases q : bt x t = true
    · rw [if_pos q, if_pos (h t ht q)]
      exact Nat.le_refl _
    · rw [if_neg q]
      exact Nat.zero_le _
theorem pcn_ub (x : Int32) (n : Nat) : pcn x n ≤ n := by
  have := sN_le (f := fun t => if bt x t = true then 1 else 0) (g := fun _ => 1) n (fun t _ => by show ite _ _ _ ≤ 1; split <;> omega)
  rw [sN_const, Nat.one_mul] at this
  exact this
end
section
/-! the stack of parts, pure. al: who lives; vl t: the line of thread t -/
def ivS (T d : Nat) (al : Int32) (vl pl pe pm : Nat → Int32) : Prop :=
  (d = 0 → ∀ t, t < T → bt al t = false) ∧
  (0 < d → pe 0 = -1 ∧ ∀ t, t < T → bt al t = true → bt (pm 0) t = true) ∧
  (∀ t, t < T → bt al t = true → ∀ i, i < d → bt (pm i) t = true → (∀ j, i < j → j < d → bt (pm j) t = false) → pl i = vl t) ∧
  (∀ t, t < T → bt al t = true → ∀ j, j < d → bt (pm j) t = true → ∀ i, i < j → bt (pm i) t = true → (∀ k, i < k → k < j → bt (pm k) t = false) → pl i = pe j) ∧
  (∀ i, i < d → i + 2 * pcn (pm i) 8 ≤ 16)
theorem z_fb {b : Bool} (h : ¬ b = true) : b = false := by
  cases b
  · rfl
  · exact absurd rfl h
theorem upd_id (f : Nat → Int32) (k : Nat) : upd f k (f k) = f := by
  funext j
  unfold upd
  by_cases h : j = k
  · rw [if_pos h, h]
  · rw [if_neg h]
/-- a part is taken off -/
theorem ivS_pop {T k : Nat} {al : Int32} {vl pl pe pm : Nat → Int32} (h : ivS T (k + 1) al vl pl pe pm) (hc : pm k &&& al = 0 ∨ pl k = pe k) (hv : ∀ t, t < T → vl t ≠ -1) : ivS T k al vl pl pe pm := by
  obtain ⟨h0, h1, h2, h3, h4⟩ := h
  obtain ⟨h1a, h1b⟩ := h1 (Nat.succ_pos k)
  -- a living thread of the part on top is at its end
  have key : ∀ t, t < T → bt al t = true → bt (pm k) t = true → vl t = pe k := by
    intro t ht ha hm
    have e := h2 t ht ha k (by omega) hm (fun j q1 q2 => by omega)
    rcases hc with hc | hc
    · have : bt (pm k &&& al) t = true := by rw [b_and, hm, ha]; rfl
      exact absurd hc (z_ne' this)
    · rw [← e, hc]
  refine ⟨fun hk t ht => ?_, fun _ => ⟨h1a, h1b⟩, fun t ht ha i hi hm hn => ?_, fun t ht ha j hj => h3 t ht ha j (by omega), fun i hi => h4 i (by omega)⟩
  · subst hk
    refine z_fb fun ha => hv t ht ?_
    rw [key t ht ha (h1b t ht ha), h1a]
  · by_cases hk : bt (pm k) t = true
    · rw [h3 t ht ha k (by omega) hk i hi hm hn]
      exact (key t ht ha hk).symm
    · refine h2 t ht ha i (by omega) hm (fun j q1 q2 => ?_)
      by_cases q : j = k
      · rw [q]; exact z_fb hk
      · exact hn j q1 (by omega)
/-- fewer live -/
theorem ivS_less {T d : Nat} {al al' : Int32} {vl pl pe pm : Nat → Int32} (h : ivS T d al vl pl pe pm) (hl : ∀ t, t < T → bt al' t = true → bt al t = true) : ivS T d al' vl pl pe pm := by
  obtain ⟨h0, h1, h2, h3, h4⟩ := h
  refine ⟨fun hd t ht => z_fb fun ha => ?_, fun hd => ⟨(h1 hd).1, fun t ht ha => (h1 hd).2 t ht (hl t ht ha)⟩, fun t ht ha => h2 t ht (hl t ht ha), fun t ht ha => h3 t ht (hl t ht ha), h4⟩
  have := h0 hd t ht
  rw [hl t ht ha] at this
  cases this
/-- the part on top moves to the line x, its mask is cut to the living -/
theorem ivS_move {T k : Nat} {al x : Int32} {vl vl' pl pe pm : Nat → Int32} (h : ivS T (k + 1) al vl pl pe pm) (hx : ∀ t, t < T → bt (pm k &&& al) t = true → vl' t = x) (hv : ∀ t, t < T → bt (pm k &&& al) t = false → vl' t = vl t) : ivS T (k + 1) al vl' (upd pl k x) pe (upd pm k (pm k &&& al)) := by
  obtain ⟨h0, h1, h2, h3, h4⟩ := h
  have hle : ∀ i t, bt (upd pm k (pm k &&& al) i) t = true → bt (pm i) t = true := by
    intro i t hb
    by_cases q : i = k
    · rw [q, pk_us, b_and, Bool.and_eq_true] at hb
      rw [q]
      exact hb.1
    · rw [pk_un q] at hb
      exact hb
  have hge : ∀ i t, bt al t = true → bt (pm i) t = true → bt (upd pm k (pm k &&& al) i) t = true := by
    intro i t ha hb
    by_cases q : i = k
    · rw [q, pk_us, b_and, ha, ← q, hb]
      rfl
    · rw [pk_un q]
      exact hb
  refine ⟨fun hd => absurd hd (by omega), fun hd => ⟨(h1 hd).1, fun t ht ha => hge 0 t ha ((h1 hd).2 t ht ha)⟩, fun t ht ha i hi hm hn => ?_, fun t ht ha j hj hm i hi hm2 hn => ?_, fun i hi => ?_⟩
  · by_cases q : i = k
    · rw [q, pk_us] at hm
      rw [q, pk_us, hx t ht hm]
    · have hk := hn k (by omega) (by omega)
      rw [pk_us] at hk
      rw [pk_un q, hv t ht hk]
      refine h2 t ht ha i hi (hle i t hm) (fun j q1 q2 => z_fb fun q3 => ?_)
      have := hn j q1 q2
      rw [hge j t ha q3] at this
      cases this
  · have hi' : i ≠ k := by omega
    rw [pk_un hi']
    refine h3 t ht ha j hj (hle j t hm) i hi (hle i t hm2) (fun a q1 q2 => z_fb fun q3 => ?_)
    have := hn a q1 q2
    rw [hge a t ha q3] at this
    cases this
  · have := h4 i hi
    have := pcn_le (x := upd pm k (pm k &&& al) i) (y := pm i) (n := 8) (fun t _ => hle i t)
    omega
/-- the part on top is parted: it waits at the line mt for two new parts -/
theorem ivS_split {T k : Nat} {al zero oth mt nx tg : Int32} {vl vl' pl pe pm : Nat → Int32} (hT : T ≤ 8) (h : ivS T (k + 1) al vl pl pe pm) (hB : ∀ t, T ≤ t → bt al t = false)
    (hz : ∀ t, bt zero t = true → bt (pm k &&& al) t = true) (ho : ∀ t, t < 32 → bt oth t = (bt (pm k &&& al) t && !(bt zero t))) (hz0 : ¬ zero = 0) (ho0 : ¬ oth = 0)
    (hx : ∀ t, t < T → bt zero t = true → vl' t = tg) (hy : ∀ t, t < T → bt oth t = true → vl' t = nx) (hv : ∀ t, t < T → bt (pm k &&& al) t = false → vl' t = vl t) :
    k + 2 < 16 ∧ ivS T (k + 3) al vl' (upd (upd (upd pl k mt) (k + 1) nx) (k + 2) tg) (upd (upd pe (k + 1) mt) (k + 2) mt) (upd (upd (upd pm k (pm k &&& al)) (k + 1) oth) (k + 2) zero) := by
  obtain ⟨h0, h1, h2, h3, h4⟩ := h
  have e2 : ∀ (f : Nat → Int32) (a b c : Int32), upd (upd (upd f k a) (k + 1) b) (k + 2) c (k + 2) = c := fun f a b c => pk_us
  have e1 : ∀ (f : Nat → Int32) (a b c : Int32), upd (upd (upd f k a) (k + 1) b) (k + 2) c (k + 1) = b := fun f a b c => by rw [pk_un (by omega), pk_us]
  have e0 : ∀ (f : Nat → Int32) (a b c : Int32), upd (upd (upd f k a) (k + 1) b) (k + 2) c k = a := fun f a b c => by rw [pk_un (by omega), pk_un (by omega), pk_us]
  have en : ∀ (f : Nat → Int32) (a b c : Int32) (i : Nat), i < k → upd (upd (upd f k a) (k + 1) b) (k + 2) c i = f i := fun f a b c i hi => by rw [pk_un (by omega), pk_un (by omega), pk_un (by omega)]
  have p2 : ∀ (f : Nat → Int32) (b c : Int32), upd (upd f (k + 1) b) (k + 2) c (k + 2) = c := fun f b c => pk_us
  have p1 : ∀ (f : Nat → Int32) (b c : Int32), upd (upd f (k + 1) b) (k + 2) c (k + 1) = b := fun f b c => by rw [pk_un (by omega), pk_us]
  have pn : ∀ (f : Nat → Int32) (b c : Int32) (i : Nat), i < k + 1 → upd (upd f (k + 1) b) (k + 2) c i = f i := fun f b c i hi => by rw [pk_un (by omega), pk_un (by omega)]
  have hmk : ∀ t, bt (pm k &&& al) t = true → bt (pm k) t = true ∧ bt al t = true := by
    intro t hb
    rw [b_and, Bool.and_eq_true] at hb
    exact hb
  have hmk2 : ∀ t, bt al t = true → bt (pm k) t = true → bt (pm k &&& al) t = true := by
    intro t a b
    rw [b_and, a, b]
    rfl
  have hlt : ∀ t, bt al t = true → t < T := fun t ha => Nat.lt_of_not_le fun q => by
    have := hB t q
    rw [ha] at this
    cases this
  have hom : ∀ t, bt oth t = true → bt (pm k &&& al) t = true ∧ bt zero t = false := by
    intro t hb
    have h32 : t < 32 := Nat.lt_of_not_le fun q => by rw [b_big q] at hb; cases hb
    have := ho t h32
    rw [hb] at this
    have := this.symm
    rw [Bool.and_eq_true] at this
    exact ⟨this.1, by simpa using this.2⟩
  -- the numbers of threads
  obtain ⟨z, hz32, hzb⟩ := z_ne hz0
  obtain ⟨y, hy32, hyb⟩ := z_ne ho0
  have hz8 : z < 8 := by have := hlt z (hmk z (hz z hzb)).2; omega
  have hy8 : y < 8 := by have := hlt y (hmk y (hom y hyb).1).2; omega
  have c1 : pcn oth 8 < pcn (pm k) 8 := by
    refine pcn_lt (fun t _ hb => (hmk t (hom t hb).1).1) hz8 (hmk z (hz z hzb)).1 (z_fb fun q => ?_)
    have := (hom z q).2
    rw [hzb] at this
    cases this
  have c2 : pcn zero 8 < pcn (pm k) 8 := pcn_lt (fun t _ hb => (hmk t (hz t hb)).1) hy8 (hmk y (hom y hyb).1).1 (hom y hyb).2
  have c3 : pcn (pm k &&& al) 8 ≤ pcn (pm k) 8 := pcn_le (fun t _ hb => (hmk t hb).1)
  have c4 : 1 ≤ pcn zero 8 := by
    have := pcn_lt (x := 0) (y := zero) (n := 8) (fun t _ hb => by rw [b_0] at hb; cases hb) hz8 hzb (b_0 z)
    omega
  have ck := h4 k (by omega)
  -- which of the masks a thread is in
  have mcase : ∀ t, bt al t = true → bt (pm k) t = true → (bt zero t = true ∧ bt oth t = false) ∨ (bt zero t = false ∧ bt oth t = true) := by
    intro t ha hm
    have h32 : t < 32 := by have := hlt t ha; omega
    have hb := hmk2 t ha hm
    cases hzt : bt zero t
    · right
      exact ⟨rfl, by rw [ho t h32, hb, hzt]; rfl⟩
    · left
      exact ⟨rfl, by rw [ho t h32, hb, hzt]; rfl⟩
  refine ⟨by omega, fun hd => absurd hd (by omega), fun _ => ?_, fun t ht ha i hi hm hn => ?_, fun t ht ha j hj hm i hi hm2 hn => ?_, fun i hi => ?_⟩
  · obtain ⟨g1, g2⟩ := h1 (by omega)
    refine ⟨by rw [pn _ _ _ 0 (by omega)]; exact g1, fun t ht ha => ?_⟩
    by_cases q : k = 0
    · subst q
      rw [e0]
      exact hmk2 t ha (g2 t ht ha)
    · rw [en _ _ _ _ 0 (by omega)]
      exact g2 t ht ha
  · -- the topmost part of t
    by_cases q2 : i = k + 2
    · subst q2
      rw [e2] at hm
      rw [e2, hx t ht hm]
    · have n2 := hn (k + 2) (by omega) (by omega)
      rw [e2] at n2
      by_cases q1 : i = k + 1
      · subst q1
        rw [e1] at hm
        rw [e1, hy t ht hm]
      · have n1 := hn (k + 1) (by omega) (by omega)
        rw [e1] at n1
        by_cases q0 : i = k
        · subst q0
          rw [e0] at hm
          rcases mcase t ha (hmk t hm).1 with q | q
          · rw [q.1] at n2; cases n2
          · rw [q.2] at n1; cases n1
        · have hik : i < k := by omega
          rw [en _ _ _ _ i hik] at hm
          rw [en _ _ _ _ i hik]
          have nk := hn k (by omega) (by omega)
          rw [e0] at nk
          rw [hv t ht nk]
          refine h2 t ht ha i (by omega) hm (fun j r1 r2 => z_fb fun r3 => ?_)
          by_cases q : j = k
          · rw [q] at r3
            rw [hmk2 t ha r3] at nk
            cases nk
          · have := hn j r1 (by omega)
            rw [en _ _ _ _ j (by omega), r3] at this
            cases this
  · -- a part below another
    by_cases q2 : j = k + 2
    · subst q2
      rw [e2] at hm
      rw [p2]
      have hmm := hz t hm
      -- the part below is k
      have : i = k := by
        refine Classical.byContradiction fun q => ?_
        by_cases q1 : i = k + 1
        · rw [q1, e1] at hm2
          have := (hom t hm2).2
          rw [hm] at this
          cases this
        · have := hn k (by omega) (by omega)
          rw [e0, hmm] at this
          cases this
      subst this
      rw [e0]
    · by_cases q1 : j = k + 1
      · subst q1
        rw [e1] at hm
        rw [p1]
        have hmm := (hom t hm).1
        have : i = k := by
          refine Classical.byContradiction fun q => ?_
          have := hn k (by omega) (by omega)
          rw [e0, hmm] at this
          cases this
        subst this
        rw [e0]
      · have hjk : j ≤ k := by omega
        rw [pn _ _ _ j (by omega), en _ _ _ _ i (by omega)]
        rw [en _ _ _ _ i (by omega)] at hm2
        refine h3 t ht ha j (by omega) ?_ i hi hm2 (fun b r1 r2 => ?_)
        · by_cases q : j = k
          · rw [q, e0] at hm
            rw [q]
            exact (hmk t hm).1
          · rw [en _ _ _ _ j (by omega)] at hm
            exact hm
        · have := hn b r1 r2
          rw [en _ _ _ _ b (by omega)] at this
          exact this
  · by_cases q2 : i = k + 2
    · subst q2; rw [e2]; omega
    · by_cases q1 : i = k + 1
      · subst q1; rw [e1]; omega
      · by_cases q0 : i = k
        · subst q0; rw [e0]; omega
        · rw [en _ _ _ _ i (by omega)]
          exact h4 i (by omega)
end
section
/-! the warp's invariant, pure: n t = steps of thread t -/
def ivT (P : PG) (T : Nat) (n : Nat → Nat) (out rg so : Nat → Int32) : Prop :=
  (∀ t, t < T → n t ≤ 48 ∧ zK (cfg P t (n t)) = n t ∧ so t = nI (n t) ∧ agr t rg (zR (cfg P t (n t)))) ∧ ∀ c, c < 16 → out c = sm (fun t => zO (cfg P t (n t)) c) T
def ivC (P : PG) (T : Nat) (n : Nat → Nat) (al : Int32) : Prop := ∀ t, t < T → bt al t = true → zH (cfg P t (n t)) = false
def ivD (P : PG) (T : Nat) (n : Nat → Nat) (lo st : Nat → Int32) (al : Int32) : Prop := ∀ t, t < T → bt al t = false → cfg P t (n t) = cfg P t 48 ∧ lo t = nI (zL (cfg P t 48)) ∧ st t = zSt P (cfg P t 48)
def vln (P : PG) (n : Nat → Nat) : Nat → Int32 := fun t => nI (zL (cfg P t (n t)))
def ivW (P : PG) (T d : Nat) (n : Nat → Nat) (out rg lo so st : Nat → Int32) (al : Int32) (pl pe pm : Nat → Int32) : Prop :=
  ivT P T n out rg so ∧ ivC P T n al ∧ ivD P T n lo st al ∧ (∀ t, T ≤ t → bt al t = false) ∧ ivS T d al (vln P n) pl pe pm
/-- what falls with every step -/
def mu (T d : Nat) (n : Nat → Nat) (al : Int32) : Nat := 3 * sN (fun t => 48 - n t) T + pcn al 8 + d
theorem vln_ne {P : PG} (hL : pLn P ≤ 32) (n : Nat → Nat) (t : Nat) : vln P n t ≠ -1 := by
  intro h
  have h1 : (nI (zL (cfg P t (n t)))).toInt = (-1 : Int32).toInt := by
    have : vln P n t = nI (zL (cfg P t (n t))) := rfl
    rw [← this, h]
  have hz := cfg_line hL t (n t)
  rw [nI_toInt (by omega)] at h1
  have : (-1 : Int32).toInt = -1 := by decide
  omega
/-- the threads of E end, at the line x, with the state y -/
theorem ivW_end {P : PG} {T d : Nat} {n : Nat → Nat} {out rg lo so st : Nat → Int32} {al : Int32} {pl pe pm : Nat → Int32} (hT : T ≤ 8) (h : ivW P T d n out rg lo so st al pl pe pm) (E x y : Int32) (hE0 : ¬ E = 0) (hE : ∀ t, bt E t = true → bt al t = true)
    (hx : ∀ t, t < T → bt E t = true → cfg P t (n t) = cfg P t 48 ∧ x = nI (zL (cfg P t 48)) ∧ y = zSt P (cfg P t 48)) :
    ivW P T d n out rg (etF T E x lo) so (etF T E y st) (al &&& (E ^^^ (-1))) pl pe pm ∧ mu T d n (al &&& (E ^^^ (-1))) < mu T d n al := by
  obtain ⟨hT1, hC, hD, hB, hS⟩ := h
  have hb : ∀ t, t < 32 → bt (al &&& (E ^^^ (-1))) t = (bt al t && !(bt E t)) := fun t ht => by rw [b_and, z_not E ht]
  have hsub : ∀ t, bt (al &&& (E ^^^ (-1))) t = true → bt al t = true := fun t q => by rw [b_and, Bool.and_eq_true] at q; exact q.1
  refine ⟨⟨hT1, fun t ht ha => hC t ht (hsub t ha), fun t ht ha => ?_, fun t ht => z_fb fun q => ?_, ivS_less hS (fun t _ => hsub t)⟩, ?_⟩
  · cases he : bt E t
    · have h1 : ¬ (t < T ∧ bt E t = true) := fun q => by rw [he] at q; exact absurd q.2 (by decide)
      rw [hb t (by omega), he] at ha
      have ha2 : bt al t = false := by simpa using ha
      obtain ⟨g1, g2, g3⟩ := hD t ht ha2
      refine ⟨g1, ?_, ?_⟩
      · unfold etF; rw [if_neg h1]; exact g2
      · unfold etF; rw [if_neg h1]; exact g3
    · obtain ⟨g1, g2, g3⟩ := hx t ht he
      refine ⟨g1, ?_, ?_⟩
      · unfold etF; rw [if_pos ⟨ht, he⟩]; exact g2
      · unfold etF; rw [if_pos ⟨ht, he⟩]; exact g3
  · have := hB t ht
    rw [hsub t q] at this
    cases this
  · obtain ⟨j, hj, hjb⟩ := z_ne hE0
    have hj8 : j < 8 := by
      have : j < T := Nat.lt_of_not_le fun q => by have := hB j q; rw [hE j hjb] at this; cases this
      omega
    have : pcn (al &&& (E ^^^ (-1))) 8 < pcn al 8 := pcn_lt (fun t _ => hsub t) hj8 (hE j hjb) (by rw [hb j hj, hjb]; simp)
    unfold mu
    omega
/-- one step more of a thread that goes on -/
theorem cfg_next {P : PG} {t i : Nat} (hs : ¬ zStop P (cfg P t i)) :
    agr t (zR (cfg P t (i + 1))) (wkR P (P.1 (zL (cfg P t i))) t (zL (cfg P t i)) (zR (cfg P t i))) ∧ ∀ c, zO (cfg P t (i + 1)) c = zO (cfg P t i) c + dlt P (P.1 (zL (cfg P t i))) t (zL (cfg P t i)) (zR (cfg P t i)) c := by
  by_cases ho : P.1 (zL (cfg P t i)) = 11
  · have e : cfg P t (i + 1) = _ := tstep_halt hs ho
    rw [e, ho, wkR_e (by decide) (by decide) (by decide) (by decide)]
    refine ⟨fun _ _ => rfl, fun c => ?_⟩
    unfold dlt
    rw [if_neg (fun q => absurd q.1 (by decide)), Int32.add_zero]
  · have e : cfg P t (i + 1) = _ := tstep_go hs ho
    rw [e]
    exact ⟨fun _ _ => rfl, fun c => wkO_dlt _ _ _ _ _ _ _⟩
theorem agr_trans {t : Nat} {A B C : Nat → Int32} (h1 : agr t A B) (h2 : agr t B C) : agr t A C := fun r hr => (h1 r hr).trans (h2 r hr)
theorem agr_symm {t : Nat} {A B : Nat → Int32} (h1 : agr t A B) : agr t B A := fun r hr => (h1 r hr).symm
/-- the steps behind a line carried out for the threads of mk -/
def nst (mk : Int32) (n : Nat → Nat) : Nat → Nat := fun t => if bt mk t = true then n t + 1 else n t
theorem nst_t {mk : Int32} {n : Nat → Nat} {t : Nat} (h : bt mk t = true) : nst mk n t = n t + 1 := if_pos h
theorem nst_f {mk : Int32} {n : Nat → Nat} {t : Nat} (h : bt mk t = false) : nst mk n t = n t := if_neg (by rw [h]; decide)
/-- registers, steps and outputs behind it -/
theorem ivT_carry {P : PG} {T l0 : Nat} {n : Nat → Nat} {out rg so : Nat → Int32} {mk : Int32} (h : ivT P T n out rg so) (hs : ∀ t, t < T → bt mk t = true → n t < 48 ∧ ¬ zStop P (cfg P t (n t)) ∧ zL (cfg P t (n t)) = l0) :
    ivT P T (nst mk n) (coO P (P.1 l0) l0 mk rg out T) (coR P (P.1 l0) l0 mk rg T) (coS mk so T) := by
  obtain ⟨h1, h2⟩ := h
  refine ⟨fun t ht => ?_, fun c hc => ?_⟩
  · obtain ⟨g1, g2, g3, g4⟩ := h1 t ht
    cases hb : bt mk t
    · rw [nst_f hb]
      refine ⟨g1, g2, ?_, fun r hr => ?_⟩
      · unfold coS
        rw [if_neg (fun q => by rw [hb] at q; exact absurd q.2 (by decide))]
        exact g3
      · rw [(coR_at P (P.1 l0) l0 mk rg T).2 t r ht hr, if_neg (by rw [hb]; decide)]
        exact g4 r hr
    · obtain ⟨k1, k2, k3⟩ := hs t ht hb
      rw [nst_t hb]
      refine ⟨by omega, by rw [cfg_ks k2, g2], ?_, fun r hr => ?_⟩
      · unfold coS
        rw [if_pos ⟨ht, hb⟩, g3]
        exact nI_1 _
      · rw [(coR_at P (P.1 l0) l0 mk rg T).2 t r ht hr, if_pos hb, (cfg_next k2).1 r hr, k3]
        exact wkR_agr g4 r hr
  · rw [coO_at, h2 c hc, ← sm_add]
    refine sm_congr T (fun t ht => ?_)
    obtain ⟨g1, g2, g3, g4⟩ := h1 t ht
    cases hb : bt mk t
    · rw [nst_f hb, if_neg (by decide), Int32.add_zero]
    · obtain ⟨k1, k2, k3⟩ := hs t ht hb
      rw [nst_t hb, if_pos rfl, (cfg_next k2).2 c, k3, dlt_agr g4 c]
/-- the measure falls by three for every thread that steps -/
theorem mu_carry {P : PG} {T d : Nat} {n : Nat → Nat} {mk al : Int32} {j : Nat} (hj : j < T) (hb : bt mk j = true) (hs : ∀ t, t < T → bt mk t = true → n t < 48) : mu T (d + 2) (nst mk n) al < mu T d n al := by
  have : sN (fun t => 48 - nst mk n t) T < sN (fun t => 48 - n t) T := by
    refine sN_lt (j := j) ?_ T hj (fun t ht => ?_)
    · show 48 - nst mk n j < 48 - n j
      have := hs j hj hb
      rw [nst_t hb]
      omega
    · show 48 - nst mk n t ≤ 48 - n t
      cases hq : bt mk t
      · rw [nst_f hq]; exact Nat.le_refl _
      · rw [nst_t hq]; omega
  unfold mu
  omega
theorem mu_mono {T d d' : Nat} {n : Nat → Nat} {al al' : Int32} (hd : d ≤ d') (h : ∀ t, bt al t = true → bt al' t = true) : mu T d n al ≤ mu T d' n al' := by
  have := pcn_le (x := al) (y := al') (n := 8) (fun t _ => h t)
  unfold mu
  omega
end
section
/-! stepWarp keeps the invariant and lowers the measure -/
/-- a line that isn't a halt, carried out for the threads of mk: the rest of the invariant, given the new stack -/
theorem ivW_go {P : PG} {T k d l0 : Nat} {n : Nat → Nat} {out rg lo so st : Nat → Int32} {al mk : Int32} {pl pe pm pl' pe' pm' : Nat → Int32} (h : ivW P T (k + 1) n out rg lo so st al pl pe pm) (hm : ∀ t, bt mk t = true → bt al t = true)
    (hs : ∀ t, t < T → bt mk t = true → n t < 48 ∧ ¬ zStop P (cfg P t (n t)) ∧ zL (cfg P t (n t)) = l0) (ho : ¬ P.1 l0 = 11) (hS : ivS T d al (vln P (nst mk n)) pl' pe' pm') :
    ivW P T d (nst mk n) (coO P (P.1 l0) l0 mk rg out T) (coR P (P.1 l0) l0 mk rg T) lo (coS mk so T) st al pl' pe' pm' := by
  obtain ⟨hT1, hC, hD, hB, -⟩ := h
  refine ⟨ivT_carry hT1 hs, fun t ht ha => ?_, fun t ht ha => ?_, hB, hS⟩
  · cases hb : bt mk t
    · rw [nst_f hb]; exact hC t ht ha
    · rw [nst_t hb]
      obtain ⟨k1, k2, k3⟩ := hs t ht hb
      have e : cfg P t (n t + 1) = _ := tstep_go k2 (by rw [k3]; exact ho)
      rw [e]
  · have hb : bt mk t = false := z_fb fun q => by rw [hm t q] at ha; cases ha
    rw [nst_f hb]
    exact hD t ht ha
/-- the line of a thread that goes on -/
theorem vln_go {P : PG} {T l0 t : Nat} {n : Nat → Nat} {out rg so : Nat → Int32} {mk : Int32} (hT1 : ivT P T n out rg so) (ht : t < T) (hb : bt mk t = true) (hs : ¬ zStop P (cfg P t (n t))) (hl : zL (cfg P t (n t)) = l0) (ho : ¬ P.1 l0 = 11) :
    vln P (nst mk n) t = nI (nxt P (P.1 l0) t l0 rg) := by
  obtain ⟨g1, g2, g3, g4⟩ := hT1.1 t ht
  show nI (zL (cfg P t (nst mk n t))) = _
  rw [nst_t hb]
  have e : cfg P t (n t + 1) = _ := tstep_go hs (by rw [hl]; exact ho)
  rw [e, hl]
  show nI (nxt P (P.1 l0) t l0 _) = _
  rw [nxt_agr g4]
theorem ivW_step {P : PG} {mt : Nat → Int32} {T k : Nat} {n : Nat → Nat} {out rg lo so st : Nat → Int32} {al : Int32} {pl pe pm : Nat → Int32} {u : SW} (hT : T ≤ 8) (hL : pLn P ≤ 32) (h : ivW P T (k + 1) n out rg lo so st al pl pe pm) (hs : swR P mt T k out rg lo so st al pl pe pm u) :
    ∃ n', ivW P T u.2.2.2.2.2.2.1 n' u.1 u.2.1 u.2.2.1 u.2.2.2.1 u.2.2.2.2.1 u.2.2.2.2.2.1 u.2.2.2.2.2.2.2.1 u.2.2.2.2.2.2.2.2.1 u.2.2.2.2.2.2.2.2.2 ∧ mu T u.2.2.2.2.2.2.1 n' u.2.2.2.2.2.1 < mu T (k + 1) n al := by
  have h' := h
  obtain ⟨hT1, hC, hD, hB, hS⟩ := h'
  unfold swR at hs
  rcases hs with ⟨hc, rfl⟩ | ⟨hm0, hne, l0, hl0, el, hs⟩
  · refine ⟨n, ⟨hT1, hC, hD, hB, ivS_pop hS hc (fun t _ => vln_ne hL n t)⟩, ?_⟩
    show mu T k n al < mu T (k + 1) n al
    unfold mu
    omega
  · generalize hmk : pm k &&& al = mk at hm0 hs
    have hmb : ∀ t, bt mk t = true → bt (pm k) t = true ∧ bt al t = true := fun t q => by
      rw [← hmk, b_and, Bool.and_eq_true] at q
      exact q
    have hlt : ∀ t, bt al t = true → t < T := fun t ha => Nat.lt_of_not_le fun q => by
      have := hB t q
      rw [ha] at this
      cases this
    have htop : ∀ t, bt mk t = true → zL (cfg P t (n t)) = l0 := fun t q => by
      have e := hS.2.2.1 t (hlt t (hmb t q).2) (hmb t q).2 k (by omega) (hmb t q).1 (fun j q1 q2 => by omega)
      have e : nI l0 = nI (zL (cfg P t (n t))) := by rw [← el]; exact e
      exact ((nI_eq hl0 (by have := cfg_line hL t (n t); omega)).mp e).symm
    rcases hs with ⟨hge, rfl⟩ | ⟨hll, htz, rfl⟩ | ⟨hll, htz, v, hv, rfl⟩
    · -- at the end of the lines
      refine ⟨n, ?_⟩
      refine ivW_end hT h mk (nI l0) 1 hm0 (fun t q => (hmb t q).2) (fun t ht q => ?_)
      have e0 := htop t q
      have hstop : zStop P (cfg P t (n t)) := Or.inr (by rw [e0]; exact hge)
      have e1 := cfg_stop hstop 48 (hT1.1 t ht).1
      refine ⟨e1.symm, by rw [e1, e0], ?_⟩
      rw [e1]
      exact (zSt_ge (by rw [e0]; exact hge)).symm
    · -- tired
      refine ⟨n, ?_⟩
      have hbits : ∀ t, bt (twZ mk so T) t = true → t < T ∧ bt mk t = true ∧ ¬ so t < 48 := fun t q => by
        have h32 : t < 32 := Nat.lt_of_not_le fun z => by rw [b_big z] at q; cases q
        exact (twZ_bt mk so T (by omega) t h32).mp q
      refine ivW_end hT h (twZ mk so T) (nI l0) 2 htz (fun t q => (hmb t (hbits t q).2.1).2) (fun t ht q => ?_)
      obtain ⟨b1, b2, b3⟩ := hbits t q
      obtain ⟨g1, g2, g3, g4⟩ := hT1.1 t ht
      have hn : n t = 48 := by
        rw [g3] at b3
        have : ¬ n t < 48 := fun z => b3 (show nI (n t) < nI 48 from nI_lt z (by omega))
        omega
      have e0 := htop t b2
      rw [hn] at e0
      refine ⟨by rw [hn], by rw [e0], ?_⟩
      have hh := hC t ht (hmb t b2).2
      rw [hn] at hh
      rw [zSt_lt (by rw [e0]; exact Nat.not_le.mpr hll), if_neg (by rw [hh]; decide)]
    · -- a line is carried out
      have hst : ∀ t, t < T → bt mk t = true → n t < 48 ∧ ¬ zStop P (cfg P t (n t)) ∧ zL (cfg P t (n t)) = l0 := fun t ht q => by
        obtain ⟨g1, g2, g3, g4⟩ := hT1.1 t ht
        have e0 := htop t q
        refine ⟨?_, fun z => z.elim (fun z => ?_) (fun z => ?_), e0⟩
        · have h0 : ¬ bt (twZ mk so T) t = true := by rw [htz, b_0]; decide
          have h1 : so t < 48 := Classical.byContradiction fun z => h0 ((twZ_bt mk so T (by omega) t (by omega)).mpr ⟨ht, q, z⟩)
          rw [g3] at h1
          exact (nI_ltI (by omega) (by decide)).mp (show nI (n t) < nI 48 from h1)
        · rw [hC t ht (hmb t q).2] at z; cases z
        · rw [e0] at z; exact absurd hll (Nat.not_lt.mpr z)
      obtain ⟨j, hj32, hjb⟩ := z_ne hm0
      have hjT := hlt j (hmb j hjb).2
      have hmu : mu T (k + 1 + 2) (nst mk n) al < mu T (k + 1) n al := mu_carry (P := P) hjT hjb (fun t ht q => (hst t ht q).1)
      have hvf : ∀ t, t < T → bt mk t = false → vln P (nst mk n) t = vln P n t := fun t ht q => by
        show nI (zL (cfg P t (nst mk n t))) = _
        rw [nst_f q]
        rfl
      have hgo : ¬ P.1 l0 = 11 → ∀ t, t < T → bt mk t = true → vln P (nst mk n) t = nI (nxt P (P.1 l0) t l0 rg) := fun ho t ht q => vln_go hT1 ht q (hst t ht q).2.1 (hst t ht q).2.2 ho
      have hone : ∀ x : Int32, ¬ P.1 l0 = 11 → (∀ t, t < T → bt mk t = true → nI (nxt P (P.1 l0) t l0 rg) = x) → ivW P T (k + 1) (nst mk n) (coO P (P.1 l0) l0 mk rg out T) (coR P (P.1 l0) l0 mk rg T) lo (coS mk so T) st al (upd pl k x) pe (upd pm k mk) := by
        intro x ho hx
        refine ivW_go h (fun t q => (hmb t q).2) hst ho ?_
        have := ivS_move (vl' := vln P (nst mk n)) (x := x) hS (fun t ht q => by rw [hmk] at q; rw [hgo ho t ht q]; exact hx t ht q) (fun t ht q => by rw [hmk] at q; exact hvf t ht q)
        rw [hmk] at this
        exact this
      have hless : mu T (k + 1) (nst mk n) al < mu T (k + 1) n al := Nat.lt_of_le_of_lt (mu_mono (by omega) (fun _ q => q)) hmu
      refine ⟨nst mk n, ?_⟩
      unfold caR at hv
      rcases hv with ⟨ho, rfl⟩ | ⟨ho, rfl⟩ | ⟨ho, w, hw, rfl⟩ | ⟨ho1, ho2, ho3, rfl⟩
      · -- halt
        have hb : ∀ t, t < 32 → bt (al &&& (mk ^^^ (-1))) t = (bt al t && !(bt mk t)) := fun t ht => by rw [b_and, z_not mk ht]
        have hsub : ∀ t, bt (al &&& (mk ^^^ (-1))) t = true → bt al t = true := fun t q => by rw [b_and, Bool.and_eq_true] at q; exact q.1
        have hh : ∀ t, t < T → bt mk t = true → zH (cfg P t (n t + 1)) = true ∧ zL (cfg P t (n t + 1)) = l0 := fun t ht q => by
          obtain ⟨k1, k2, k3⟩ := hst t ht q
          have e : cfg P t (n t + 1) = _ := tstep_halt k2 (by rw [k3]; exact ho)
          rw [e]
          exact ⟨rfl, k3⟩
        refine ⟨⟨ivT_carry hT1 hst, fun t ht ha => ?_, fun t ht ha => ?_, fun t ht => z_fb fun q => ?_, ?_⟩, ?_⟩
        · have hf : bt mk t = false := by
            have ha : bt (al &&& (mk ^^^ (-1))) t = true := ha
            rw [hb t (by omega), Bool.and_eq_true] at ha
            simpa using ha.2
          rw [nst_f hf]
          exact hC t ht (hsub t ha)
        · have ha : bt (al &&& (mk ^^^ (-1))) t = false := ha
          show _ ∧ etF T mk (nI l0) lo t = _ ∧ etF T mk 1 st t = _
          cases hq : bt mk t
          · have hf : bt al t = false := by
              rw [hb t (by omega), hq] at ha
              simpa using ha
            rw [nst_f hq]
            obtain ⟨g1, g2, g3⟩ := hD t ht hf
            have hn : ¬ (t < T ∧ bt mk t = true) := fun q => by rw [hq] at q; exact absurd q.2 (by decide)
            refine ⟨g1, ?_, ?_⟩
            · unfold etF; rw [if_neg hn]; exact g2
            · unfold etF; rw [if_neg hn]; exact g3
          · rw [nst_t hq]
            obtain ⟨z1, z2⟩ := hh t ht hq
            have e1 := cfg_stop (P := P) (t := t) (i := n t + 1) (Or.inl z1) 48 (by have := (hst t ht hq).1; omega)
            refine ⟨e1.symm, ?_, ?_⟩
            · unfold etF; rw [if_pos ⟨ht, hq⟩, e1, z2]
            · unfold etF; rw [if_pos ⟨ht, hq⟩, e1]
              unfold zSt
              rw [if_pos (Or.inl z1)]
        · have := hB t ht
          rw [hsub t q] at this
          cases this
        · have := ivS_move (vl' := vln P (nst mk n)) (x := pl k) hS (fun t ht q => by
            rw [hmk] at q
            show nI (zL (cfg P t (nst mk n t))) = _
            rw [nst_t q, (hh t ht q).2, el]) (fun t ht q => by rw [hmk] at q; exact hvf t ht q)
          rw [hmk, upd_id] at this
          exact ivS_less this (fun t _ => hsub t)
        · exact Nat.lt_of_le_of_lt (mu_mono (d := k + 1) (d' := k + 1 + 2) (by omega) hsub) hmu
      · have ho11 : ¬ P.1 l0 = 11 := by rw [ho]; decide
        exact ⟨hone _ ho11 (fun t ht q => by rw [nxt_y (Or.inl ho)]), hless⟩
      · have ho11 : ¬ P.1 l0 = 11 := by rw [ho]; decide
        have ho9 : ¬ P.1 l0 = 9 := by rw [ho]; decide
        generalize hzz : coZ P (P.1 l0) l0 mk rg T = zero at hw
        have hzb : ∀ t, t < 32 → (bt zero t = true ↔ t < T ∧ bt mk t = true ∧ rg (4 * t + m4 (P.2.1 l0)) = 0) := fun t ht => by
          rw [← hzz]
          exact coZ_bt P (P.1 l0) l0 mk rg T (by omega) t ht
        have hob : ∀ t, t < 32 → bt (mk &&& (zero ^^^ (-1))) t = (bt mk t && !(bt zero t)) := fun t ht => by rw [b_and, z_not zero ht]
        have hyes : ∀ t, t < T → bt zero t = true → nI (nxt P (P.1 l0) t l0 rg) = nI (m32 (P.2.2.1 l0)) := fun t ht q => by
          rw [nxt_y (Or.inr ⟨ho, ((hzb t (by omega)).mp q).2.2⟩)]
        have hno : ∀ t, t < T → bt mk t = true → ¬ bt zero t = true → nI (nxt P (P.1 l0) t l0 rg) = nI (l0 + 1) := fun t ht q1 q2 => by
          rw [nxt_n (fun z => z.elim ho9 (fun z => q2 ((hzb t (by omega)).mpr ⟨ht, q1, z.2⟩)))]
        unfold brR at hw
        rcases hw with ⟨hoz, rfl⟩ | ⟨hon, hz0, rfl⟩ | ⟨hon, hzn, rfl⟩
        · refine ⟨hone _ ho11 (fun t ht q => hyes t ht ?_), hless⟩
          refine Classical.byContradiction fun z => ?_
          have : bt (mk &&& (zero ^^^ (-1))) t = true := by rw [hob t (by omega), q, z_fb z]; rfl
          exact z_ne' this hoz
        · refine ⟨hone _ ho11 (fun t ht q => hno t ht q (by rw [hz0, b_0]; decide)), hless⟩
        · have hsp := ivS_split (mt := mt l0) (nx := nI (l0 + 1)) (tg := nI (m32 (P.2.2.1 l0))) (zero := zero) (oth := mk &&& (zero ^^^ (-1))) (vl' := vln P (nst mk n)) hT hS hB (fun t q => by
              have h32 : t < 32 := Nat.lt_of_not_le fun z => by rw [b_big z] at q; cases q
              rw [hmk]
              exact ((hzb t h32).mp q).2.1) (fun t ht => by rw [hmk]; exact hob t ht) hzn hon
              (fun t ht q => by rw [hgo ho11 t ht ((hzb t (by omega)).mp q).2.1]; exact hyes t ht q)
              (fun t ht q => by
                rw [hob t (by omega), Bool.and_eq_true] at q
                rw [hgo ho11 t ht q.1]
                exact hno t ht q.1 (fun z => by rw [z] at q; exact absurd q.2 (by decide)))
              (fun t ht q => by rw [hmk] at q; exact hvf t ht q)
          rw [hmk] at hsp
          exact ⟨ivW_go h (fun t q => (hmb t q).2) hst ho11 hsp.2, hmu⟩
      · exact ⟨hone _ ho1 (fun t ht q => by rw [nxt_n (fun z => z.elim ho2 (fun z => ho3 z.1))]), hless⟩
end
section
/-! the invariant at the start and at the end of a run -/
theorem pcn_all {T : Nat} (al : Int32) : pcn al 8 ≤ 8 := pcn_ub al 8
theorem ivW_0 (P : PG) {T : Nat} (hT : T ≤ 8) (out rg lo so st pl pe pm : Nat → Int32) :
    ivW P T 1 (fun _ => 0) (zr 16 out) (zr 32 rg) lo (zr 8 so) st (((1 : Int32) <<< (nI T &&& 31)) - 1) (upd pl 0 0) (upd pe 0 (-1)) (upd pm 0 (((1 : Int32) <<< (nI T &&& 31)) - 1)) ∧ mu T 1 (fun _ => 0) (((1 : Int32) <<< (nI T &&& 31)) - 1) ≤ 1161 := by
  generalize hal : ((1 : Int32) <<< (nI T &&& 31)) - 1 = al
  have hb : ∀ t, t < 32 → bt al t = decide (t < T) := fun t ht => by rw [← hal]; exact z_all T (by omega) t ht
  refine ⟨⟨⟨fun t ht => ⟨Nat.zero_le _, rfl, ?_, fun r hr => ?_⟩, fun c hc => ?_⟩, fun t ht ha => rfl, fun t ht ha => ?_, fun t ht => ?_, fun hd => absurd hd (by omega), fun _ => ⟨pk_us, fun t ht ha => by rw [pk_us]; exact ha⟩, fun t ht ha i hi hm hn => ?_, fun t ht ha j hj hm i hi => absurd hi (by omega), fun i hi => ?_⟩, ?_⟩
  · unfold zr
    rw [if_pos (by omega)]
    rfl
  · unfold zr
    rw [if_pos (by omega)]
    rfl
  · have e : ∀ k, sm (fun t => zO (cfg P t 0) c) k = 0 := by
      intro k
      induction k with
      | zero => rfl
      | succ k ih =>
        show sm _ k + 0 = 0
        rw [ih]
        rfl
    rw [e]
    unfold zr
    rw [if_pos hc]
  · rw [hb t (by omega), decide_eq_true ht] at ha
    cases ha
  · rcases Nat.lt_or_ge t 32 with q | q
    · rw [hb t q, decide_eq_false (by omega)]
    · exact b_big q
  · have : i = 0 := by omega
    subst this
    rw [pk_us]
    rfl
  · have : i = 0 := by omega
    subst this
    have := pcn_ub (upd pm 0 al 0) 8
    omega
  · have h1 := pcn_ub al 8
    have h2 : sN (fun t => 48 - (fun _ => 0) t) T = 48 * T := sN_const 48 T
    unfold mu
    rw [h2]
    omega
theorem ivW_fin {P : PG} {T : Nat} {n : Nat → Nat} {out rg lo so st : Nat → Int32} {al : Int32} {pl pe pm : Nat → Int32} (h : ivW P T 0 n out rg lo so st al pl pe pm) : finR P T out rg lo so st := by
  obtain ⟨⟨h1, h2⟩, hC, hD, hB, hS⟩ := h
  have hdead := hS.1 rfl
  refine ⟨fun c hc => ?_, fun t ht => ?_⟩
  · rw [h2 c hc]
    refine sm_congr T (fun t ht => ?_)
    rw [(hD t ht (hdead t ht)).1]
  · obtain ⟨g1, g2, g3⟩ := hD t ht (hdead t ht)
    obtain ⟨k1, k2, k3, k4⟩ := h1 t ht
    rw [g1] at k2 k4
    exact ⟨k4, g2, by rw [k3, k2], g3⟩
theorem ivW_line {P : PG} (hL : pLn P ≤ 32) {T k : Nat} {n : Nat → Nat} {out rg lo so st : Nat → Int32} {al : Int32} {pl pe pm : Nat → Int32} (h : ivW P T (k + 1) n out rg lo so st al pl pe pm) (hm : ¬ (pm k &&& al) = 0) : ∃ l0 : Nat, l0 < 2 ^ 31 ∧ pl k = nI l0 := by
  obtain ⟨hT1, hC, hD, hB, hS⟩ := h
  obtain ⟨t, h32, hb⟩ := z_ne hm
  rw [b_and, Bool.and_eq_true] at hb
  have ht : t < T := Nat.lt_of_not_le fun q => by
    have := hB t q
    rw [hb.2] at this
    cases this
  refine ⟨zL (cfg P t (n t)), by have := cfg_line hL t (n t); omega, ?_⟩
  exact hS.2.2.1 t ht hb.2 k (by omega) hb.1 (fun j q1 q2 => by omega)
theorem ivW_depth {P : PG} {T d : Nat} {n : Nat → Nat} {out rg lo so st : Nat → Int32} {al : Int32} {pl pe pm : Nat → Int32} (h : ivW P T d n out rg lo so st al pl pe pm) : d ≤ 17 := by
  rcases Nat.eq_zero_or_pos d with q | q
  · omega
  · have := h.2.2.2.2.2.2.2.2 (d - 1) (by omega)
    omega
end
section
/-! contract: run of WarpMachine -/
section RunWarp
variable {p : Program} {l : Launch} {e : Env} {R : Room} {s : State} {m : MethodId} {args : Array Value} {below : List Frame} {meth : Method} {c : Code} {Q : State → Prop} {A : Nat → Prop} {dC : Nat → ClassId} {dI : Nat → Nat → Nat} {a : Nat → Nat} {cI cJ : ClassId}
set_option maxHeartbeats 4000000 in
set_option maxRecDepth 100000 in
theorem lpX1_run1 (SF : CallFix p m c cX1_run 3 s args lw_all RX1) (hK : va_K (dC, dI) vwCl (tyL cI cJ) s) (hA : ∀ q : Nat, s.heap.size ≤ q → A q) (T L : Nat) (hT : T ≤ 8) (hL : L ≤ 32) (op fa fb fc inp : Nat → Int32) (ps : Nat → Int64) (mt : Nat → Int32)
    (kk : ∀ (n : Nat → Nat) (out rg lo so st : Nat → Int32) (al : Int32) (pl pe pm : Nat → Int32) (H : Heap) (locs : List Loc) (ls : Array Slot), ivW (op, fa, fb, fc, inp, L) T 0 n out rg lo so st al pl pe pm → va_P (dC, dI) vwCl (w1 a cI cJ (nI T) (nI L) op fa fb fc inp out rg lo so st ps mt al (nI 0) pl pe pm) H → va_D A (w1 a cI cJ (nI T) (nI L) op fa fb fc inp out rg lo so st ps mt al (nI 0) pl pe pm) → va_S A s.heap H locs → lv_has ls 3 [(0, .ref (a 0))] → W p l e ({ frames := 4, cells := 0, slots := 0, locals := 100 } : Room) s m args below meth c H locs 0 0 Q (F0 m 63 ls [])) :
    ∀ (N i : Nat), i + N < 2000 → ∀ (d : Nat) (n : Nat → Nat) (out rg lo so st : Nat → Int32) (al : Int32) (pl pe pm : Nat → Int32) (H : Heap) (locs : List Loc) (ls : Array Slot), ivW (op, fa, fb, fc, inp, L) T d n out rg lo so st al pl pe pm → mu T d n al ≤ N → va_P (dC, dI) vwCl (w1 a cI cJ (nI T) (nI L) op fa fb fc inp out rg lo so st ps mt al (nI d) pl pe pm) H → va_D A (w1 a cI cJ (nI T) (nI L) op fa fb fc inp out rg lo so st ps mt al (nI d) pl pe pm) → va_S A s.heap H locs → lv_has ls 3 [(1, .int (nI i)), (0, .ref (a 0))] → W p l e ({ frames := 4, cells := 0, slots := 0, locals := 100 } : Room) s m args below meth c H locs 0 0 Q (F0 m 39 ls []) := by
  obtain ⟨hx, hb, hml, hown, hts⟩ := id SF
  intro N
  induction N with
  | zero =>
    intro i hi d n out rg lo so st al pl pe pm H locs ls hI hmu hP hD hS hl
    have hd17 := ivW_depth hI
    refine lv_iload_n hx hb dX1_run_39 rfl (lv_at hl 0 rfl) ?_
    refine lv_sipush (v := 2000) hx hb dX1_run_40 (by decide) ?_
    refine lv_icmp_ge (tgt := 63) hx hb dX1_run_43 (by decide) (fun c1 => ?_) (fun c1 => ?_)
    · exact absurd c1 (nI_ge (a := i) (b := 2000) (by omega) (by omega))
    · refine lv_aload_n hx hb dX1_run_46 rfl (lv_at hl 1 rfl) ?_
      refine va_get (D := (dC, dI)) (ci := 0) (v := .int (nI d)) (C := RX1) (T := TX1) (N := 19) hx hb hts in_X1 hown hK hP 0 rfl rfl 15 (by decide) (hts _ q41) (fun _ h9 => h9) rfl dX1_run_47 ?_
      refine lv_if_le (tgt := 63) hx hb dX1_run_50 (by decide) (fun c2 => ?_) (fun c2 => ?_)
      · have hd0 : d = 0 := Nat.eq_zero_of_not_pos fun q => nI_nle q (by omega) c2
        subst hd0
        exact kk n out rg lo so st al pl pe pm H locs ls hI hP hD hS (lv_sub hl [1] rfl)
      · have hd0 : d = 0 := by unfold mu at hmu; omega
        subst hd0
        exact absurd (by decide) c2
  | succ N ih =>
    intro i hi d n out rg lo so st al pl pe pm H locs ls hI hmu hP hD hS hl
    have hd17 := ivW_depth hI
    refine lv_iload_n hx hb dX1_run_39 rfl (lv_at hl 0 rfl) ?_
    refine lv_sipush (v := 2000) hx hb dX1_run_40 (by decide) ?_
    refine lv_icmp_ge (tgt := 63) hx hb dX1_run_43 (by decide) (fun c1 => ?_) (fun c1 => ?_)
    · exact absurd c1 (nI_ge (a := i) (b := 2000) (by omega) (by omega))
    · refine lv_aload_n hx hb dX1_run_46 rfl (lv_at hl 1 rfl) ?_
      refine va_get (D := (dC, dI)) (ci := 0) (v := .int (nI d)) (C := RX1) (T := TX1) (N := 19) hx hb hts in_X1 hown hK hP 0 rfl rfl 15 (by decide) (hts _ q41) (fun _ h9 => h9) rfl dX1_run_47 ?_
      refine lv_if_le (tgt := 63) hx hb dX1_run_50 (by decide) (fun c2 => ?_) (fun c2 => ?_)
      · have hd0 : d = 0 := Nat.eq_zero_of_not_pos fun q => nI_nle q (by omega) c2
        subst hd0
        exact kk n out rg lo so st al pl pe pm H locs ls hI hP hD hS (lv_sub hl [1] rfl)
      · obtain ⟨k, rfl⟩ : ∃ k, d = k + 1 := ⟨d - 1, by have : d ≠ 0 := fun q => c2 (by rw [q]; decide); omega⟩
        refine lv_aload_n hx hb dX1_run_53 rfl (lv_at hl 1 rfl) ?_
        refine n_callv (As := []) (rest := []) SF (mX1_stepWarp l dC dI a cI cJ _ T L op fa fb fc inp out rg lo so st ps mt al pl pe pm k hT hL (by omega) (ivW_line (P := (op, fa, fb, fc, inp, L)) hL hI)) (cwV 0 hts (lw_V q123 q125 qs5 q16 q126) rfl rfl rfl (by decide +kernel) ⟨Nat.le_of_ble_eq_true rfl, Nat.le_of_ble_eq_true rfl⟩) hK hP hD hS hA 0 0 rfl rfl rfl rfl hl.1 rfl (Nat.le_of_ble_eq_true rfl) dX1_run_54 ⟨Nat.le_of_ble_eq_true rfl, Nat.le_of_ble_eq_true rfl⟩ (fun u H locs hu hP hD hS => ?_)
        have hP : va_P (dC, dI) vwCl (w1 a cI cJ (nI T) (nI L) op fa fb fc inp u.1 u.2.1 u.2.2.1 u.2.2.2.1 u.2.2.2.2.1 ps mt u.2.2.2.2.2.1 (nI u.2.2.2.2.2.2.1) u.2.2.2.2.2.2.2.1 u.2.2.2.2.2.2.2.2.1 u.2.2.2.2.2.2.2.2.2) H := hP
        have hD : va_D A (w1 a cI cJ (nI T) (nI L) op fa fb fc inp u.1 u.2.1 u.2.2.1 u.2.2.2.1 u.2.2.2.2.1 ps mt u.2.2.2.2.2.1 (nI u.2.2.2.2.2.2.1) u.2.2.2.2.2.2.2.1 u.2.2.2.2.2.2.2.2.1 u.2.2.2.2.2.2.2.2.2) := hD
        obtain ⟨n1, hI1, hmu1⟩ := ivW_step (P := (op, fa, fb, fc, inp, L)) hT hL hI hu
        refine lv_iinc (v := nI (i + 1)) (lv' := [(1, .int (nI (i + 1))), (0, .ref (a 0))]) hx hb dX1_run_57 hl (k := 0) rfl (nI_1 _) (by decide) rfl (fun ls hl => ?_)
        refine lv_goto (tgt := 39) hx hb dX1_run_60 (by decide) ?_
        exact ih (i + 1) (by omega) _ n1 _ _ _ _ _ _ _ _ _ H locs ls hI1 (by omega) hP hD hS hl
set_option maxHeartbeats 4000000 in
set_option maxRecDepth 100000 in
theorem lpX1_run2 (SF : CallFix p m c cX1_run 3 s args lw_all RX1) (hK : va_K (dC, dI) vwCl (tyL cI cJ) s) (T L : Nat) (hT : T ≤ 8) (op fa fb fc inp out rg lo so st : Nat → Int32) (ps : Nat → Int64) (mt : Nat → Int32) (al dp : Int32) (pl pe pm : Nat → Int32) (hF : finR (op, fa, fb, fc, inp, L) T out rg lo so st) 
    (kk : ∀ (H : Heap) (locs : List Loc) (ls : Array Slot), va_P (dC, dI) vwCl (w1 a cI cJ (nI T) (nI L) op fa fb fc inp out rg lo so st ps mt al dp pl pe pm) H → va_D A (w1 a cI cJ (nI T) (nI L) op fa fb fc inp out rg lo so st ps mt al dp pl pe pm) → va_S A s.heap H locs → lv_has ls 3 [(2, .int (nI T)), (1, .int (nI (cnt (op, fa, fb, fc, inp, L) T))), (0, .ref (a 0))] → W p l e R s m args below meth c H locs 0 0 Q (F0 m 99 ls [])) :
    ∀ (n i : Nat), i + n = T → ∀ (H : Heap) (locs : List Loc) (ls : Array Slot), va_P (dC, dI) vwCl (w1 a cI cJ (nI T) (nI L) op fa fb fc inp out rg lo so st ps mt al dp pl pe pm) H → va_D A (w1 a cI cJ (nI T) (nI L) op fa fb fc inp out rg lo so st ps mt al dp pl pe pm) → va_S A s.heap H locs → lv_has ls 3 [(2, .int (nI i)), (1, .int (nI (cnt (op, fa, fb, fc, inp, L) i))), (0, .ref (a 0))] → W p l e R s m args below meth c H locs 0 0 Q (F0 m 67 ls []) := by
  obtain ⟨hx, hb, hml, hown, hts⟩ := id SF
  intro n
  induction n with
  | zero =>
    intro i hi H locs ls hP hD hS hl
    refine lv_iload_n hx hb dX1_run_67 rfl (lv_at hl 0 rfl) ?_
    refine lv_aload_n hx hb dX1_run_68 rfl (lv_at hl 2 rfl) ?_
    refine va_get (D := (dC, dI)) (ci := 0) (v := .int (nI T)) (C := RX1) (T := TX1) (N := 19) hx hb hts in_X1 hown hK hP 0 rfl rfl 0 (by decide) (hts _ q26) (fun _ h9 => h9) rfl dX1_run_69 ?_
    refine lv_icmp_ge (tgt := 99) hx hb dX1_run_72 (by decide) (fun cz => ?_) (fun cz => ?_)
    · obtain rfl : i = T := by omega
      exact kk H locs ls hP hD hS hl
    · exact absurd (nI_le (a := T) (b := i) (by omega) (by omega)) cz
  | succ n ih =>
    intro i hi H locs ls hP hD hS hl
    refine lv_iload_n hx hb dX1_run_67 rfl (lv_at hl 0 rfl) ?_
    refine lv_aload_n hx hb dX1_run_68 rfl (lv_at hl 2 rfl) ?_
    refine va_get (D := (dC, dI)) (ci := 0) (v := .int (nI T)) (C := RX1) (T := TX1) (N := 19) hx hb hts in_X1 hown hK hP 0 rfl rfl 0 (by decide) (hts _ q26) (fun _ h9 => h9) rfl dX1_run_69 ?_
    refine lv_icmp_ge (tgt := 99) hx hb dX1_run_72 (by decide) (fun cs => ?_) (fun cs => ?_)
    · exact absurd cs (nI_ge (a := i) (b := T) (by omega) (by omega))
    · refine lv_iload_n hx hb dX1_run_75 rfl (lv_at hl 1 rfl) ?_
      refine lv_aload_n hx hb dX1_run_76 rfl (lv_at hl 2 rfl) ?_
      refine va_get (D := (dC, dI)) (ci := 0) (v := .ref (a 10)) (C := RX1) (T := TX1) (N := 19) hx hb hts in_X1 hown hK hP 0 rfl rfl 11 (by decide) (hts _ q37) (fun _ h9 => h9) rfl dX1_run_77 ?_
      refine lv_iload_n hx hb dX1_run_80 rfl (lv_at hl 0 rfl) ?_
      refine n_iald hx hb hK hP 10 0 rfl rfl i rfl (by omega) (by decide) dX1_run_81 ?_
      refine n_topi (y := zSt (op, fa, fb, fc, inp, L) (cfg (op, fa, fb, fc, inp, L) i 48)) (hF.2 i (by omega)).2.2.2 ?_
      refine lv_iconst (v := 1) hx hb dX1_run_82 (by decide) ?_
      refine lv_icmp_ne (tgt := 90) hx hb dX1_run_83 (by decide) (fun c1 => ?_) (fun c1 => ?_)
      · refine lv_iconst (v := 0) hx hb dX1_run_90 (by decide) ?_
        refine lv_iadd hx hb dX1_run_91 ?_
        refine n_topi (y := nI (cnt (op, fa, fb, fc, inp, L) (i + 1))) (by rw [Int32.add_zero, ← cnt_n c1]) ?_
        refine lv_istore_n (lv' := [(1, .int (nI (cnt (op, fa, fb, fc, inp, L) (i + 1)))), (2, .int (nI i)), (0, .ref (a 0))]) hx hb dX1_run_92 rfl hl (by decide) rfl (fun ls hl => ?_)
        refine lv_iinc (v := nI (i + 1)) (lv' := [(2, .int (nI (i + 1))), (1, .int (nI (cnt (op, fa, fb, fc, inp, L) (i + 1)))), (0, .ref (a 0))]) hx hb dX1_run_93 hl (k := 1) rfl (nI_1 _) (by decide) rfl (fun ls hl => ?_)
        refine lv_goto (tgt := 67) hx hb dX1_run_96 (by decide) ?_
        exact ih (i + 1) (by omega) H locs ls hP hD hS hl
      · refine lv_iconst (v := 1) hx hb dX1_run_86 (by decide) ?_
        refine lv_goto (tgt := 91) hx hb dX1_run_87 (by decide) ?_
        refine lv_iadd hx hb dX1_run_91 ?_
        refine n_topi (y := nI (cnt (op, fa, fb, fc, inp, L) (i + 1))) (by rw [cnt_y c1]; exact nI_1 _) ?_
        refine lv_istore_n (lv' := [(1, .int (nI (cnt (op, fa, fb, fc, inp, L) (i + 1)))), (2, .int (nI i)), (0, .ref (a 0))]) hx hb dX1_run_92 rfl hl (by decide) rfl (fun ls hl => ?_)
        refine lv_iinc (v := nI (i + 1)) (lv' := [(2, .int (nI (i + 1))), (1, .int (nI (cnt (op, fa, fb, fc, inp, L) (i + 1)))), (0, .ref (a 0))]) hx hb dX1_run_93 hl (k := 1) rfl (nI_1 _) (by decide) rfl (fun ls hl => ?_)
        refine lv_goto (tgt := 67) hx hb dX1_run_96 (by decide) ?_
        exact ih (i + 1) (by omega) H locs ls hP hD hS hl
end RunWarp
abbrev SR : Type := (Nat → Int32) × (Nat → Int32) × (Nat → Int32) × (Nat → Int32) × (Nat → Int32) × (Nat → Int64) × (Nat → Int32) × Int32 × Int32 × (Nat → Int32) × (Nat → Int32) × (Nat → Int32)
set_option maxHeartbeats 4000000 in
set_option maxRecDepth 100000 in
theorem mX1_run (l : Launch) (dC : Nat → ClassId) (dI : Nat → Nat → Nat) (a : Nat → Nat) (cI cJ : ClassId) (sz : Nat) (T L : Nat) (op fa fb fc inp out rg lo so st : Nat → Int32) (ps : Nat → Int64) (mt : Nat → Int32) (al dp : Int32) (pl pe pm : Nat → Int32)  (hT : T ≤ 8) (hL : L ≤ 32) : Met l yX1_run (ws_ yX1_run cX1_run 3 (some .int)) ({ frames := 4, cells := 0, slots := 0, locals := 100 } : Room) (va_Pc [.ref (a 0)] (prW dC dI (tyL cI cJ) sz (w1 a cI cJ (nI T) (nI L) op fa fb fc inp out rg lo so st ps mt al dp pl pe pm))) (va_Qi (fun (r : Int32) (u : SR) => r = nI (cnt (op, fa, fb, fc, inp, L) T) ∧ finR (op, fa, fb, fc, inp, L) T u.1 u.2.1 u.2.2.1 u.2.2.2.1 u.2.2.2.2.1) (fun u => poW dC dI (tyL cI cJ) (va_A (w1 a cI cJ (nI T) (nI L) op fa fb fc inp out rg lo so st ps mt al dp pl pe pm) sz) (w1 a cI cJ (nI T) (nI L) op fa fb fc inp u.1 u.2.1 u.2.2.1 u.2.2.2.1 u.2.2.2.2.1 u.2.2.2.2.2.1 u.2.2.2.2.2.2.1 u.2.2.2.2.2.2.2.1 u.2.2.2.2.2.2.2.2.1 u.2.2.2.2.2.2.2.2.2.1 u.2.2.2.2.2.2.2.2.2.2.1 u.2.2.2.2.2.2.2.2.2.2.2)) (va_A (w1 a cI cJ (nI T) (nI L) op fa fb fc inp out rg lo so st ps mt al dp pl pe pm) sz)) 0 0 (va_A (w1 a cI cJ (nI T) (nI L) op fa fb fc inp out rg lo so st ps mt al dp pl pe pm) sz) := by
  refine n_met (by decide) (Nat.le_of_ble_eq_true rfl) ?_
  intro p e s m below meth c ls SF hr hlocks hnm hsz hK hP hD hA hl
  subst hsz
  have hS : va_S (va_A (w1 a cI cJ (nI T) (nI L) op fa fb fc inp out rg lo so st ps mt al dp pl pe pm) s.heap.size) s.heap s.heap [] := va_S.rf
  generalize va_A (w1 a cI cJ (nI T) (nI L) op fa fb fc inp out rg lo so st ps mt al dp pl pe pm) s.heap.size = A at hD hA hS ⊢
  obtain ⟨hx, hb, hml, hown, hts⟩ := id SF
  have hown : s.vm.findClass RX1 = some m.cls := hown
  have SF : CallFix p m c cX1_run 3 s _ lw_all RX1 := SF
  have hl : lv_has ls 3 [(0, .ref (a 0))] := hl
  refine lv_aload_n hx hb dX1_run_0 rfl (lv_at hl 0 rfl) ?_
  refine n_callv (As := []) (rest := []) SF (mX1_findMeetings l dC dI a cI cJ _ T L op fa fb fc inp out rg lo so st ps mt al dp pl pe pm hL) (cwV 0 hts (lw_V q102 q104 qs0 q16 q105) rfl rfl rfl (by decide +kernel) ⟨Nat.le_of_ble_eq_true rfl, Nat.le_of_ble_eq_true rfl⟩) hK hP hD hS hA 0 0 rfl rfl rfl rfl hl.1 rfl (Nat.le_of_ble_eq_true rfl) dX1_run_1 ⟨Nat.le_of_ble_eq_true rfl, Nat.le_of_ble_eq_true rfl⟩ (fun u1 H locs _ hP hD hS => ?_)
  have hP : va_P (dC, dI) vwCl (w1 a cI cJ (nI T) (nI L) op fa fb fc inp out rg lo so st u1.1 u1.2 al dp pl pe pm) H := hP
  have hD : va_D A (w1 a cI cJ (nI T) (nI L) op fa fb fc inp out rg lo so st u1.1 u1.2 al dp pl pe pm) := hD
  refine lv_aload_n hx hb dX1_run_4 rfl (lv_at hl 0 rfl) ?_
  refine n_callv (As := []) (rest := []) SF (mX1_reset l dC dI a cI cJ _ T L op fa fb fc inp out rg lo so st u1.1 u1.2 al dp pl pe pm) (cwV 0 hts (lw_V q119 q121 qs4 q16 q122) rfl rfl rfl (by decide +kernel) ⟨Nat.le_of_ble_eq_true rfl, Nat.le_of_ble_eq_true rfl⟩) hK hP hD hS hA 0 0 rfl rfl rfl rfl hl.1 rfl (Nat.le_of_ble_eq_true rfl) dX1_run_5 ⟨Nat.le_of_ble_eq_true rfl, Nat.le_of_ble_eq_true rfl⟩ (fun _ H locs _ hP hD hS => ?_)
  have hP : va_P (dC, dI) vwCl (w1 a cI cJ (nI T) (nI L) op fa fb fc inp (zr 16 out) (zr 32 rg) lo (zr 8 so) st u1.1 u1.2 (((1 : Int32) <<< (nI T &&& 31)) - 1) dp pl pe pm) H := hP
  have hD : va_D A (w1 a cI cJ (nI T) (nI L) op fa fb fc inp (zr 16 out) (zr 32 rg) lo (zr 8 so) st u1.1 u1.2 (((1 : Int32) <<< (nI T &&& 31)) - 1) dp pl pe pm) := hD
  refine lv_aload_n hx hb dX1_run_8 rfl (lv_at hl 0 rfl) ?_
  refine lv_iconst (v := 1) hx hb dX1_run_9 (by decide) ?_
  refine n_topi (y := nI 1) rfl ?_
  refine va_put (D := (dC, dI)) (ci := 0) (v := .int (nI 1)) (ty := .int) (C := RX1) (T := TX1) (N := 19) hx hb hts in_X1 tyX1 tyX1_ok nmX1 hown hK hP hD hS 0 rfl rfl 15 (by decide) (hts _ q41) (fun _ h9 => h9) rfl (by decide +kernel) rfl rfl (Nat.le_of_ble_eq_true rfl) dX1_run_10 (fun H locs hP hD hS => ?_)
  have hP : va_P (dC, dI) vwCl (w1 a cI cJ (nI T) (nI L) op fa fb fc inp (zr 16 out) (zr 32 rg) lo (zr 8 so) st u1.1 u1.2 (((1 : Int32) <<< (nI T &&& 31)) - 1) (nI 1) pl pe pm) H := hP
  have hD : va_D A (w1 a cI cJ (nI T) (nI L) op fa fb fc inp (zr 16 out) (zr 32 rg) lo (zr 8 so) st u1.1 u1.2 (((1 : Int32) <<< (nI T &&& 31)) - 1) (nI 1) pl pe pm) := hD
  refine lv_aload_n hx hb dX1_run_13 rfl (lv_at hl 0 rfl) ?_
  refine va_get (D := (dC, dI)) (ci := 0) (v := .ref (a 13)) (C := RX1) (T := TX1) (N := 19) hx hb hts in_X1 hown hK hP 0 rfl rfl 16 (by decide) (hts _ q42) (fun _ h9 => h9) rfl dX1_run_14 ?_
  refine lv_iconst (v := 0) hx hb dX1_run_17 (by decide) ?_
  refine lv_iconst (v := 0) hx hb dX1_run_18 (by decide) ?_
  refine n_iast hx hb hK hP hD hS 13 0 rfl rfl 0 rfl (by omega) (by decide) dX1_run_19 (fun H locs hP hD hS => ?_)
  have hP : va_P (dC, dI) vwCl (w1 a cI cJ (nI T) (nI L) op fa fb fc inp (zr 16 out) (zr 32 rg) lo (zr 8 so) st u1.1 u1.2 (((1 : Int32) <<< (nI T &&& 31)) - 1) (nI 1) (upd pl 0 0) pe pm) H := hP
  have hD : va_D A (w1 a cI cJ (nI T) (nI L) op fa fb fc inp (zr 16 out) (zr 32 rg) lo (zr 8 so) st u1.1 u1.2 (((1 : Int32) <<< (nI T &&& 31)) - 1) (nI 1) (upd pl 0 0) pe pm) := hD
  refine lv_aload_n hx hb dX1_run_20 rfl (lv_at hl 0 rfl) ?_
  refine va_get (D := (dC, dI)) (ci := 0) (v := .ref (a 14)) (C := RX1) (T := TX1) (N := 19) hx hb hts in_X1 hown hK hP 0 rfl rfl 17 (by decide) (hts _ q43) (fun _ h9 => h9) rfl dX1_run_21 ?_
  refine lv_iconst (v := 0) hx hb dX1_run_24 (by decide) ?_
  refine lv_iconst (v := (-1)) hx hb dX1_run_25 (by decide) ?_
  refine n_iast hx hb hK hP hD hS 14 0 rfl rfl 0 rfl (by omega) (by decide) dX1_run_26 (fun H locs hP hD hS => ?_)
  have hP : va_P (dC, dI) vwCl (w1 a cI cJ (nI T) (nI L) op fa fb fc inp (zr 16 out) (zr 32 rg) lo (zr 8 so) st u1.1 u1.2 (((1 : Int32) <<< (nI T &&& 31)) - 1) (nI 1) (upd pl 0 0) (upd pe 0 (-1)) pm) H := hP
  have hD : va_D A (w1 a cI cJ (nI T) (nI L) op fa fb fc inp (zr 16 out) (zr 32 rg) lo (zr 8 so) st u1.1 u1.2 (((1 : Int32) <<< (nI T &&& 31)) - 1) (nI 1) (upd pl 0 0) (upd pe 0 (-1)) pm) := hD
  refine lv_aload_n hx hb dX1_run_27 rfl (lv_at hl 0 rfl) ?_
  refine va_get (D := (dC, dI)) (ci := 0) (v := .ref (a 15)) (C := RX1) (T := TX1) (N := 19) hx hb hts in_X1 hown hK hP 0 rfl rfl 18 (by decide) (hts _ q44) (fun _ h9 => h9) rfl dX1_run_28 ?_
  refine lv_iconst (v := 0) hx hb dX1_run_31 (by decide) ?_
  refine lv_aload_n hx hb dX1_run_32 rfl (lv_at hl 0 rfl) ?_
  refine va_get (D := (dC, dI)) (ci := 0) (v := .int (((1 : Int32) <<< (nI T &&& 31)) - 1)) (C := RX1) (T := TX1) (N := 19) hx hb hts in_X1 hown hK hP 0 rfl rfl 14 (by decide) (hts _ q40) (fun _ h9 => h9) rfl dX1_run_33 ?_
  refine n_iast hx hb hK hP hD hS 15 0 rfl rfl 0 rfl (by omega) (by decide) dX1_run_36 (fun H locs hP hD hS => ?_)
  have hP : va_P (dC, dI) vwCl (w1 a cI cJ (nI T) (nI L) op fa fb fc inp (zr 16 out) (zr 32 rg) lo (zr 8 so) st u1.1 u1.2 (((1 : Int32) <<< (nI T &&& 31)) - 1) (nI 1) (upd pl 0 0) (upd pe 0 (-1)) (upd pm 0 (((1 : Int32) <<< (nI T &&& 31)) - 1))) H := hP
  have hD : va_D A (w1 a cI cJ (nI T) (nI L) op fa fb fc inp (zr 16 out) (zr 32 rg) lo (zr 8 so) st u1.1 u1.2 (((1 : Int32) <<< (nI T &&& 31)) - 1) (nI 1) (upd pl 0 0) (upd pe 0 (-1)) (upd pm 0 (((1 : Int32) <<< (nI T &&& 31)) - 1))) := hD
  refine lv_iconst (v := 0) hx hb dX1_run_37 (by decide) ?_
  refine lv_istore_n (lv' := [(1, .int 0), (0, .ref (a 0))]) hx hb dX1_run_38 rfl hl (by decide) rfl (fun ls hl => ?_)
  obtain ⟨hI, hmu⟩ := ivW_0 (op, fa, fb, fc, inp, L) (T := T) hT out rg lo so st pl pe pm
  refine lpX1_run1 SF hK hA T L hT hL op fa fb fc inp u1.1 u1.2 ?_ 1161 0 (by omega) 1 (fun _ => 0) _ _ _ _ _ _ _ _ _ _ _ _ hI hmu hP hD hS hl
  intro n out1 rg1 lo1 so1 st1 al1 pl1 pe1 pm1 H locs ls hI hP hD hS hl
  have hF := ivW_fin hI
  refine lv_iconst (v := 0) hx hb dX1_run_63 (by decide) ?_
  refine lv_istore_n (lv' := [(1, .int 0), (0, .ref (a 0))]) hx hb dX1_run_64 rfl hl (by decide) rfl (fun ls hl => ?_)
  refine lv_iconst (v := 0) hx hb dX1_run_65 (by decide) ?_
  refine lv_istore_n (lv' := [(2, .int 0), (1, .int 0), (0, .ref (a 0))]) hx hb dX1_run_66 rfl hl (by decide) rfl (fun ls hl => ?_)
  refine lpX1_run2 SF hK T L hT op fa fb fc inp out1 rg1 lo1 so1 st1 u1.1 u1.2 al1 (nI 0) pl1 pe1 pm1 hF ?_ T 0 (by omega) _ _ _ hP hD hS hl
  intro H locs ls hP hD hS hl
  refine lv_iload_n hx hb dX1_run_99 rfl (lv_at hl 1 rfl) ?_
  exact W.iret (v := nI (cnt (op, fa, fb, fc, inp, L) T)) hx hb hr (fun t9 h9 hW9 => ⟨⟨_, (out1, rg1, lo1, so1, st1, u1.1, u1.2, al1, nI 0, pl1, pe1, pm1), rfl, ⟨rfl, hF⟩, by rw [h9]; exact hP, va_K.moved hW9.alike hK, hD⟩, hS.F h9⟩) hS.2.2 dX1_run_100
end
section
/-! rows for the law: its script, two machines side by side -/
theorem z_two {A : Nat → Prop} {D : va_G} {cl : List vw_C} {wc wr w1 : va_W} {H H1 : Heap} (hP : va_P D cl (wc ++ wr) H) (hD : va_D A (wc ++ wr))
    (hk : ∀ q : Nat, q < H.size → ¬ va_A wc H.size q → H1[q]? = H[q]?) (hF : ∀ q, va_A wc H.size q → A q) (hP1 : va_P D cl w1 H1) (hD1 : va_D (va_A wc H.size) w1) : va_P D cl (wr ++ w1) H1 ∧ va_D A (wr ++ w1) := by
  have atR : ∀ (k : Nat) (q : Nat × va_E), wr[k]? = some q → (wc ++ wr)[wc.length + k]? = some q := fun k q h => by
    rw [List.getElem?_append_right (by omega), Nat.add_sub_cancel_left]
    exact h
  have atC : ∀ (k : Nat) (q : Nat × va_E), wc[k]? = some q → (wc ++ wr)[k]? = some q := fun k q h => by
    rw [List.getElem?_append_left (List.getElem?_eq_some_iff.mp h).1]
    exact h
  have apart : ∀ (k : Nat) (q : Nat × va_E), wr[k]? = some q → q.1 < H.size ∧ ¬ va_A wc H.size q.1 := by
    intro k q hq
    have hl := (hP _ q (atR k q hq)).lt
    refine ⟨hl, fun h => ?_⟩
    rcases h with ⟨k2, e, h⟩ | h
    · have hij := hD.1 _ _ q (q.1, e) (atR k q hq) (atC k2 _ h) rfl
      have := (List.getElem?_eq_some_iff.mp h).1
      omega
    · omega
  refine ⟨va_P.app (fun k q hq => ?_) hP1, va_D.app ⟨fun i j x y hx hy hxy => ?_, fun k q hq => hD.2 _ q (atR k q hq)⟩ (hD1.weaken (fun k q _ h => hF q.1 h)) (fun i j x y hx hy hxy => ?_)⟩
  · obtain ⟨g1, g2⟩ := apart k q hq
    exact (hP _ q (atR k q hq)).kept (hk q.1 g1 g2)
  · have := hD.1 _ _ x y (atR i x hx) (atR j y hy) hxy
    omega
  · exact (apart i x hx).2 (by rw [hxy]; exact hD1.2 j y hy)
theorem z_left {A : Nat → Prop} {D : va_G} {cl : List vw_C} {wc wr : va_W} {H : Heap} (hP : va_P D cl (wc ++ wr) H) (hD : va_D A (wc ++ wr)) : va_P D cl wc H ∧ va_D A wc := by
  have atC : ∀ (k : Nat) (q : Nat × va_E), wc[k]? = some q → (wc ++ wr)[k]? = some q := fun k q h => by
    rw [List.getElem?_append_left (List.getElem?_eq_some_iff.mp h).1]
    exact h
  exact ⟨fun k q h => hP k q (atC k q h), fun i j x y hx hy hxy => hD.1 i j x y (atC i x hx) (atC j y hy) hxy, fun k q h => hD.2 k q (atC k q h)⟩
theorem z_gt {a i : Nat} (ha : a < 2 ^ 30) (hi : i < 2 ^ 30) : (nI a - 5 < nI i) ↔ a < i + 5 := by
  rw [Int32.lt_iff_toInt_lt]
  have h1 : (nI a - 5).toInt = (a : Int) - 5 := pk_sub_toInt (b := 5) ha (by omega)
  rw [h1, nI_toInt (by omega)]
  omega
section LawCalls
variable {p : Program} {l : Launch} {e : Env} {R : Room} {s : State} {m : MethodId} {args : Array Value} {below : List Frame} {meth : Method} {c : Code} {H : Heap} {locs : List Loc} {cells slots : Nat} {Q : State → Prop}
variable {cc : ByteArray} {pc : Nat} {ls : Array Slot} {rest st0 : List Value} {dC : Nat → ClassId} {dI : Nat → Nat → Nat} {A : Nat → Prop} {tys tys1 : List (ClassId × FieldType)} {wc wr : va_W} {H0 : Heap}
variable {y : MethodName} {bytes : ByteArray} {maxL nL n index : Nat} {ret : Option FieldType} {rm : Room} {own C : String} {b : Nat} {As : List Value} {fs : List Value} {qq : vw_C}
theorem n_sld (hexec : p.tables.exec = Jvm.exec) (hb : c.code = cc) {b L : Nat} {xs : Nat → Int32} (hX : va_X b L xs s H0) (hbl : b < H0.size) (hbA : ¬ A b) (hS : va_S A H0 H locs) {i : Int32} (k : Nat) (hi : i = nI k) (hk : k < L) (hL : L < 2 ^ 31) (hdg : decode cc pc = .ok (.iaload, 1))
    (kk : W p l e R s m args below meth c H locs cells slots Q (F0 m (pc + 1) ls (.int (xs k) :: rest))) : W p l e R s m args below meth c H locs cells slots Q (F0 m pc ls (.int i :: .ref b :: rest)) := by
  subst hi
  refine va_sld hexec hb hX hbl hbA hS (vp_in_nI hk hL) hdg ?_
  rw [nI_clamp (by omega)]
  exact kk
/-- a call over the first of two worlds; the other stays, and comes first behind it -/
theorem n_call2v {S : Type} {post : S → Prop} {wn : S → va_W} (SF : CallFix p m c cc nL s args lw_all own)
    (hM : Met l y (ws_ y bytes maxL ret) rm (va_Pc (.ref b :: As) (prW dC dI tys H.size wc)) (va_Qv post (fun u => poW dC dI tys (va_A wc H.size) (wn u)) (va_A wc H.size)) 0 0 (va_A wc H.size))
    (cw : CallW R s args own C index y bytes maxL ret (ws_ y bytes maxL ret) rm 0 0 n)
    (hK : va_K (dC, dI) vwCl tys s) (hP : va_P (dC, dI) vwCl (wc ++ wr) H) (hD : va_D A (wc ++ wr)) (hS : va_S A H0 H locs) (hA : ∀ q, H0.size ≤ q → A q)
    (q0 ci : Nat) (hc : vwCl[ci]? = some qq) (hC : qq.1 = C) (he : wc[q0]? = some (b, .inr (ci, fs)))
    (hn : As.length = n) (hsize : ls.size = nL) (hst : st0 = As.reverse ++ .ref b :: rest) (hW : (rest.map fun v => v.category).sum ≤ 8) (hdg : decode cc pc = .ok (.invokevirtual index, 3)) (hf : cells ≤ R.cells ∧ slots ≤ R.slots)
    (kk : ∀ (u : S) (H1 : Heap) (locs1 : List Loc), post u → va_P (dC, dI) vwCl (wr ++ wn u) H1 → va_D A (wr ++ wn u) → va_S A H0 H1 locs1 → W p l e R s m args below meth c H1 locs1 cells slots Q (F0 m (pc + 3) ls rest)) :
    W p l e R s m args below meth c H locs cells slots Q (F0 m pc ls st0) := by
  obtain ⟨hPc, hDc⟩ := z_left hP hD
  have hFc : ∀ q, va_A wc H.size q → A q := fun q h => by
    rcases h with ⟨k, e, h⟩ | h
    · exact hDc.2 k (q, e) h
    · exact hA q (Nat.le_trans hS.1 h)
  refine va_callv (va_runV SF hM cw ⟨fun a U g mk q => ?_, ?_, fun U hU hW => ⟨rfl, by rw [hU], by rw [hU]; exact hPc, va_K.moved hW.alike hK, hDc.weaken (fun _ _ _ _ => trivial)⟩⟩ rfl hn hsize hst (lv_room hW) hdg hf) hS (fun q _ h => hFc q h) hFc (fun u t H1 locs1 ht hvm hw hB hz hk hS1 => ?_)
  · obtain ⟨q0, q1, qP, qK, qD⟩ := q
    exact ⟨q0, q1, qP, va_K.moved (u := U) (U := U.calling g mk a) (Vm.Alike.refl U.vm) qK, qD⟩
  · subst hC
    exact va_recv hK hPc hc he
  · obtain ⟨hP1, hK1, hD1⟩ := hB
    rw [ht] at hP1
    obtain ⟨hP2, hD2⟩ := z_two hP hD hk hFc hP1 hD1
    exact kk u H1 locs1 hw hP2 hD2 hS1
theorem n_call2i {S : Type} {post : Int32 → S → Prop} {wn : S → va_W} (SF : CallFix p m c cc nL s args lw_all own)
    (hM : Met l y (ws_ y bytes maxL ret) rm (va_Pc (.ref b :: As) (prW dC dI tys H.size wc)) (va_Qi post (fun u => poW dC dI tys (va_A wc H.size) (wn u)) (va_A wc H.size)) 0 0 (va_A wc H.size))
    (cw : CallW R s args own C index y bytes maxL ret (ws_ y bytes maxL ret) rm 0 0 n)
    (hK : va_K (dC, dI) vwCl tys s) (hP : va_P (dC, dI) vwCl (wc ++ wr) H) (hD : va_D A (wc ++ wr)) (hS : va_S A H0 H locs) (hA : ∀ q, H0.size ≤ q → A q)
    (q0 ci : Nat) (hc : vwCl[ci]? = some qq) (hC : qq.1 = C) (he : wc[q0]? = some (b, .inr (ci, fs)))
    (hn : As.length = n) (hsize : ls.size = nL) (hst : st0 = As.reverse ++ .ref b :: rest) (hW : (rest.map fun v => v.category).sum ≤ 8) (hdg : decode cc pc = .ok (.invokevirtual index, 3)) (hf : cells ≤ R.cells ∧ slots ≤ R.slots)
    (kk : ∀ (r : Int32) (u : S) (H1 : Heap) (locs1 : List Loc), post r u → va_P (dC, dI) vwCl (wr ++ wn u) H1 → va_D A (wr ++ wn u) → va_S A H0 H1 locs1 → W p l e R s m args below meth c H1 locs1 cells slots Q (F0 m (pc + 3) ls (.int r :: rest))) :
    W p l e R s m args below meth c H locs cells slots Q (F0 m pc ls st0) := by
  obtain ⟨hPc, hDc⟩ := z_left hP hD
  have hFc : ∀ q, va_A wc H.size q → A q := fun q h => by
    rcases h with ⟨k, e, h⟩ | h
    · exact hDc.2 k (q, e) h
    · exact hA q (Nat.le_trans hS.1 h)
  refine va_calli (va_runV SF hM cw ⟨fun a U g mk q => ?_, ?_, fun U hU hW => ⟨rfl, by rw [hU], by rw [hU]; exact hPc, va_K.moved hW.alike hK, hDc.weaken (fun _ _ _ _ => trivial)⟩⟩ rfl hn hsize hst (lv_room hW) hdg hf) hS (fun q _ h => hFc q h) hFc (fun r u t H1 locs1 ht hvm hw hB hz hk hS1 => ?_)
  · obtain ⟨q0, q1, qP, qK, qD⟩ := q
    exact ⟨q0, q1, qP, va_K.moved (u := U) (U := U.calling g mk a) (Vm.Alike.refl U.vm) qK, qD⟩
  · subst hC
    exact va_recv hK hPc hc he
  · obtain ⟨hP1, hK1, hD1⟩ := hB
    rw [ht] at hP1
    obtain ⟨hP2, hD2⟩ := z_two hP hD hk hFc hP1 hD1
    exact kk r u H1 locs1 hw hP2 hD2 hS1
/-- a constructor's call over the first of two worlds -/
theorem n_call2n {S : Type} {post : S → Prop} {wn : S → va_W} {ty1 : S → List (ClassId × FieldType)} {mc ms : Nat} (SF : CallFix p m c cc nL s args lw_all own)
    (hM : Met l y (ws_ y bytes maxL none) rm (va_Pc (.ref b :: As) (prW dC dI tys H.size wc)) (va_Qv post (fun u => poW dC dI (ty1 u) (va_A wc H.size) (wn u)) (va_A wc H.size)) mc ms (va_A wc H.size))
    (cw : CallB R s args own index y bytes maxL none (ws_ y bytes maxL none) rm mc ms n ∧ y.name = "<init>" ∧ (Cond.instanceMethod y).before args s = true)
    (hK : va_K (dC, dI) vwCl tys s) (hP : va_P (dC, dI) vwCl (wc ++ wr) H) (hD : va_D A (wc ++ wr)) (hS : va_S A H0 H locs) (hA : ∀ q, H0.size ≤ q → A q)
    (hn : As.length = n) (hsize : ls.size = nL) (hst : st0 = As.reverse ++ .ref b :: rest) (hW : (rest.map fun v => v.category).sum ≤ 8) (hdg : decode cc pc = .ok (.invokespecial index, 3)) (hf : cells + mc ≤ R.cells ∧ slots + ms ≤ R.slots)
    (kk : ∀ (u : S) (H1 : Heap) (locs1 : List Loc), post u → va_K (dC, dI) vwCl (ty1 u) s → va_P (dC, dI) vwCl (wr ++ wn u) H1 → va_D A (wr ++ wn u) → va_S A H0 H1 locs1 → W p l e R s m args below meth c H1 locs1 (cells + mc) (slots + ms) Q (F0 m (pc + 3) ls rest)) :
    W p l e R s m args below meth c H locs cells slots Q (F0 m pc ls st0) := by
  obtain ⟨hPc, hDc⟩ := z_left hP hD
  have hFc : ∀ q, va_A wc H.size q → A q := fun q h => by
    rcases h with ⟨k, e, h⟩ | h
    · exact hDc.2 k (q, e) h
    · exact hA q (Nat.le_trans hS.1 h)
  refine va_callv (va_runI SF hM cw ⟨fun a U g mk q => ?_, fun U hU hW => ⟨rfl, by rw [hU], by rw [hU]; exact hPc, va_K.moved hW.alike hK, hDc.weaken (fun _ _ _ _ => trivial)⟩⟩ rfl hn hsize hst (lv_room hW) hdg hf) hS (fun q _ h => hFc q h) hFc (fun u t H1 locs1 ht hvm hw hB hz hk hS1 => ?_)
  · obtain ⟨q0, q1, qP, qK, qD⟩ := q
    exact ⟨q0, q1, qP, va_K.moved (u := U) (U := U.calling g mk a) (Vm.Alike.refl U.vm) qK, qD⟩
  · obtain ⟨hP1, hK1, hD1⟩ := hB
    rw [ht] at hP1
    obtain ⟨hP2, hD2⟩ := z_two hP hD hk hFc hP1 hD1
    exact kk u H1 locs1 hw (va_K.moved hvm.symm hK1) hP2 hD2 hS1
/-- a static call that reads the script alone -/
theorem n_callx {post : Int32 → Prop} {bx L : Nat} {xs : Nat → Int32} {ws : va_W} (SF : CallFix p m c cc nL s args lw_all own)
    (hM : Met l y (ws_ y bytes maxL ret) rm (va_Pc As (fun U => va_X bx L xs U U.heap ∧ bx < U.heap.size)) (va_Qi (fun r (_ : Unit) => post r) (fun _ _ => True) (fun _ => False)) 0 0 (fun _ => False))
    (cw : CallB R s args own index y bytes maxL ret (ws_ y bytes maxL ret) rm 0 0 n ∧ (Cond.static y).before args s = true)
    (hX : va_X bx L xs s H0) (hbl : bx < H0.size) (hbA : ¬ A bx) (hP : va_P (dC, dI) vwCl ws H) (hS : va_S A H0 H locs)
    (hn : As.length = n) (hsize : ls.size = nL) (hst : st0 = As.reverse ++ rest) (hW : (rest.map fun v => v.category).sum ≤ 8) (hdg : decode cc pc = .ok (.invokestatic index, 3)) (hf : cells ≤ R.cells ∧ slots ≤ R.slots)
    (kk : ∀ (r : Int32) (H1 : Heap) (locs1 : List Loc), post r → va_P (dC, dI) vwCl ws H1 → va_S A H0 H1 locs1 → W p l e R s m args below meth c H1 locs1 cells slots Q (F0 m (pc + 3) ls (.int r :: rest))) :
    W p l e R s m args below meth c H locs cells slots Q (F0 m pc ls st0) := by
  refine va_calli (va_runS SF hM cw ⟨fun a U g mk q => ?_, fun U hU hW => ⟨rfl, ?_, ?_⟩⟩ rfl hn hsize hst (lv_room hW) hdg hf) hS (fun q _ h => h.elim) (fun q h => h.elim) (fun r u t H1 locs1 ht hvm hw hB hz hk hS1 => ?_)
  · obtain ⟨q0, qX, ql⟩ := q
    exact ⟨q0, va_X.moved (u := U) (U := U.calling g mk a) (Vm.Alike.refl U.vm) qX, ql⟩
  · rw [hU]
    exact (va_X.moved hW.alike hX).kept (hS.2.1 bx hbl hbA)
  · rw [hU]
    exact Nat.lt_of_lt_of_le hbl hS.1
  · exact kk r H1 locs1 hw (hP.kept (fun k q hq => hk q.1 (hP k q hq).lt (fun h => h))) hS1
end LawCalls
set_option maxHeartbeats 4000000 in
set_option maxRecDepth 100000 in
/-- cell(script, 0) -/
theorem mX0_cell (l : Launch) (b L : Nat) (xs : Nat → Int32) (hL : L < 2 ^ 31) : Met l yX0_cell (ws_ yX0_cell cX0_cell 2 (some .int)) ({ frames := 0, cells := 0, slots := 0, locals := 0 } : Room) (va_Pc [.ref b, .int 0] (fun U => va_X b L xs U U.heap ∧ b < U.heap.size)) (va_Qi (fun r (_ : Unit) => r = if 0 < L then xs 0 else 0) (fun _ _ => True) (fun _ => False)) 0 0 (fun _ => False) := by
  refine Met.ofW (cc := cX0_cell) (maxL := 2) (ret := some .int) (by decide) rfl ?_
  intro p e s m args below meth c s₁ B hml hv
  obtain ⟨rfl, hX, hbl⟩ := hv
  have hx := B.exec
  have hb := B.bytes
  have hr := B.returns
  have hlocks := B.notSynchronized
  have hS : va_S (fun _ => False) s.heap s.heap [] := va_S.rf
  have hl := lv_entry [.ref b, .int 0] (n := 2) (Nat.le_of_ble_eq_true rfl)
  rw [lg_entry_eq]
  generalize (lg_sl ([.ref b, .int 0]) ++ List.replicate (2 - (lg_sl ([.ref b, .int 0])).length) Slot.unset).toArray = ls at hl ⊢
  have hl : lv_has ls 2 [(0, .ref b), (1, .int 0)] := hl
  refine lv_iload_n hx hb dX0_cell_0 rfl (lv_at hl 1 rfl) ?_
  refine lv_aload_n hx hb dX0_cell_1 rfl (lv_at hl 0 rfl) ?_
  refine va_slen hx hb hX hbl (fun h => h) hS dX0_cell_2 ?_
  refine lv_icmp_ge (tgt := 12) hx hb dX0_cell_3 (by decide) (fun c_1 => ?_) (fun c_1 => ?_)
  · have hn : ¬ 0 < L := fun q => nI_ge (a := 0) (b := L) q hL c_1
    refine lv_iconst (v := 0) hx hb dX0_cell_12 (by decide) ?_
    exact W.iret (v := 0) hx hb hr (fun t9 h9 hW9 => ⟨⟨_, (), rfl, (if_neg hn).symm, trivial⟩, hS.F h9⟩) hS.2.2 dX0_cell_13
  · have hn : 0 < L := Nat.lt_of_not_le fun q => c_1 (nI_le (a := L) (b := 0) q (by omega))
    refine lv_aload_n hx hb dX0_cell_6 rfl (lv_at hl 0 rfl) ?_
    refine lv_iload_n hx hb dX0_cell_7 rfl (lv_at hl 1 rfl) ?_
    refine n_sld hx hb hX hbl (fun h => h) hS 0 rfl hn hL dX0_cell_8 ?_
    refine lv_goto (tgt := 13) hx hb dX0_cell_9 (by decide) ?_
    exact W.iret (v := xs 0) hx hb hr (fun t9 h9 hW9 => ⟨⟨_, (), rfl, (if_pos hn).symm, trivial⟩, hS.F h9⟩) hS.2.2 dX0_cell_13
end
section
/-! THE CLAIM OUT OF ONE WALK OF THE LAW'S BODY. Your part is whole_start (and what it stands on); all else here is the same for every law, but numbers. -/
def R_law : String := "WarpMachineLaw"
def lw_P (b : Addr) (xs : List Int32) (args : Array Value) (s : State) : Prop := args = #[.ref b] ∧ s.IntsAt b xs ∧ xs.length ≤ 321 ∧ (Jvm.Cond.and given_1 narrow_1).before args s = true
def lw_Q (_ : Array Value) (s : State) (o : Outcome) (t : State) : Prop := o = .returned (some (.int 1)) ∧ Framed s o t [] 600000 7290000
def lw_Z (below : List Frame) (a : Array Value) (s : State) : State → Prop := fun t => ∃ o, t.status = .running ∧ Ended t below o ∧ lw_Q a s o t
/-- the law's own end, with 1 on the stack, nothing written that was there before, its room as the claim has it -/
theorem lw_ret {p : Program} {l : Launch} {e : Env} {s : State} {m : MethodId} {below : List Frame} {meth : Method} {c : Code} {b : Nat} (hx : p.tables.exec = Jvm.exec) (hb : c.code = code) (hr : meth.sig.returnType = ret) (hlocks : meth.locks = false) {pc : Nat} {H : Heap} {ls : Array Slot} (hdg : decode code pc = .ok (.ireturn, 1)) : W p l e room_1 s m #[Value.ref b] below meth c H [] 600000 7290000 (lw_Z below #[Value.ref b] s) (F0 m pc ls [.int 1]) := by
  intro T hT X
  obtain ⟨fs, hret, hrun, hended, hW, hframe⟩ := X.leave (v := some (.int 1)) (hlocks := hlocks) (fun h => by rw [hr] at h; cases h)
  have hmeth' : T.vm.method? m = some meth := X.method'
  refine ⟨T.setFrames fs, ?_, .returned (some (.int 1)), hrun, hended, rfl, ⟨_, rfl⟩, hW, hframe⟩
  jvm_step X.here [X.here.top, hx, hb, hdg, hmeth', hr, ret, narrow_b1]
  (try refine ⟨rfl, ?_⟩); (try refine ⟨rfl, ?_⟩)
  first | (intro acts; rw [hret _ acts rfl rfl rfl]) | rw [hret _ _ rfl rfl rfl]
  exact Steps.refl _
/-- what holds at the law's entry: the machine, the code, the tables' words (any of lw_tbl by 'hts w (by decide +kernel)'), the script of L ints xs at the cell b, what the Statement gives of the start (any of its parts by flat_of_before) -/
def lw_At (p : Program) (s : State) (m : MethodId) (meth : Method) (c : Code) (b L : Nat) (xs : Nat → Int32) : Prop :=
  p.tables.exec = Jvm.exec ∧ c.code = code ∧ meth.sig.returnType = ret ∧ c.maxLocals = 4 ∧ s.vm.findClass R_law = some m.cls ∧ (∀ w ∈ lw_tbl, w.before #[Value.ref b] s = true) ∧ va_X b L xs s s.heap ∧ b < s.heap.size ∧ meth.locks = false ∧ (Jvm.Cond.and given_1 narrow_1).before #[Value.ref b] s = true
end
section
/-! the law's loop -/
/-- both machines show the same -/
def eqR (T : Nat) (out rg lo so st out2 rg2 lo2 so2 st2 : Nat → Int32) : Prop := (∀ c, c < 16 → out c = out2 c) ∧ ∀ t, t < T → agr t rg rg2 ∧ lo t = lo2 t ∧ so t = so2 t ∧ st t = st2 t
theorem finR_eq {P : PG} {T : Nat} {out rg lo so st out2 rg2 lo2 so2 st2 : Nat → Int32} (h1 : finR P T out rg lo so st) (h2 : finR P T out2 rg2 lo2 so2 st2) : eqR T out rg lo so st out2 rg2 lo2 so2 st2 := by
  refine ⟨fun c hc => by rw [h1.1 c hc, h2.1 c hc], fun t ht => ?_⟩
  obtain ⟨a1, a2, a3, a4⟩ := h1.2 t ht
  obtain ⟨b1, b2, b3, b4⟩ := h2.2 t ht
  exact ⟨agr_trans a1 (agr_symm b1), by rw [a2, b2], by rw [a3, b3], by rw [a4, b4]⟩
theorem emR_det {L : Nat} {op fa fb fc : Nat → Int32} {o x y z r r2 : Int32} {u u2 : Nat × (Nat → Int32) × (Nat → Int32) × (Nat → Int32) × (Nat → Int32)} (h1 : emR L op fa fb fc o x y z r u) (h2 : emR L op fa fb fc o x y z r2 u2) : r = r2 ∧ u2 = u := by
  unfold emR at h1 h2
  by_cases q : o < 0 ∨ 11 < o ∨ ¬ L < 32
  · rw [if_pos q] at h1 h2
    exact ⟨h1.1.trans h2.1.symm, h2.2.trans h1.2.symm⟩
  · rw [if_neg q] at h1 h2
    exact ⟨h1.1.trans h2.1.symm, h2.2.trans h1.2.symm⟩
theorem emR_ok {L : Nat} {op fa fb fc : Nat → Int32} {o x y z r : Int32} {u : Nat × (Nat → Int32) × (Nat → Int32) × (Nat → Int32) × (Nat → Int32)} (h1 : emR L op fa fb fc o x y z r u) (hL : L ≤ 32) (ho : ∀ j, 0 ≤ op j) : u.1 ≤ 32 ∧ ∀ j, 0 ≤ u.2.1 j := by
  unfold emR at h1
  by_cases q : o < 0 ∨ 11 < o ∨ ¬ L < 32
  · rw [if_pos q] at h1
    rw [h1.2]
    exact ⟨hL, ho⟩
  · rw [if_neg q] at h1
    rw [h1.2]
    refine ⟨Nat.lt_of_not_le fun z => q (Or.inr (Or.inr (Nat.not_lt.mpr z))), fun j => ?_⟩
    show 0 ≤ upd op L o j
    unfold upd
    split
    · exact Int32.not_lt.mp fun z => q (Or.inl z)
    · exact ho j
theorem z_thr {T : Nat} (hT : T ≤ 8) {k : Int32} (h : ¬ k < 0 ∧ ¬ nI T ≤ k) : k.toNatClampNeg < T := by
  rcases pk_ix k (n := T) (by omega) with q | q | ⟨j, hj, rfl⟩
  · exact absurd q h.1
  · exact absurd q h.2
  · rw [nI_clamp (by omega)]; exact hj
theorem get_eq {T : Nat} (hT : T ≤ 8) {k d r r2 : Int32} {f f2 : Nat → Int32} (hf : ∀ t, t < T → f t = f2 t) (h1 : r = if ¬ k < 0 ∧ ¬ nI T ≤ k then f k.toNatClampNeg else d) (h2 : r2 = if ¬ k < 0 ∧ ¬ nI T ≤ k then f2 k.toNatClampNeg else d) : r = r2 := by
  by_cases q : ¬ k < 0 ∧ ¬ nI T ≤ k
  · rw [h1, h2, if_pos q, if_pos q, hf _ (z_thr hT q)]
  · rw [h1, h2, if_neg q, if_neg q]
set_option maxHeartbeats 4000000 in
set_option maxRecDepth 100000 in
theorem law_loop {p : Program} {e : Env} {s : State} {m : MethodId} {below : List Frame} {meth : Method} {c : Code} (l : Launch) {b L : Nat} {xs : Nat → Int32} (hL : L ≤ 321) (C0 : lw_At p s m meth c b L xs) {dC : Nat → ClassId} {dI : Nat → Nat → Nat} {cI cJ : ClassId} (hK : va_K (dC, dI) vwCl (tyL cI cJ) s) (a a2 : Nat → Nat) (T : Nat) (hT : T ≤ 8) :
    ∀ (n i : Nat), i + 5 * n = 321 → ∀ (Ln : Nat) (op fa fb fc inp out rg lo so st : Nat → Int32) (ps : Nat → Int64) (mt : Nat → Int32) (al dp : Int32) (pl pe pm out2 rg2 lo2 so2 st2 : Nat → Int32) (H : Heap) (locs : List Loc) (ls : Array Slot), Ln ≤ 32 → (∀ j, 0 ≤ op j) → eqR T out rg lo so st out2 rg2 lo2 so2 st2 →
      va_P (dC, dI) vwCl ((w1 a cI cJ (nI T) (nI Ln) op fa fb fc inp out rg lo so st ps mt al dp pl pe pm) ++ (w2 a2 cI (nI T) (nI Ln) op fa fb fc inp out2 rg2 lo2 so2 st2)) H → va_D (fun q : Nat => s.heap.size ≤ q) ((w1 a cI cJ (nI T) (nI Ln) op fa fb fc inp out rg lo so st ps mt al dp pl pe pm) ++ (w2 a2 cI (nI T) (nI Ln) op fa fb fc inp out2 rg2 lo2 so2 st2)) → va_S (fun q : Nat => s.heap.size ≤ q) s.heap H locs → lv_has ls 4 [(3, .int (nI i)), (2, .ref (a2 0)), (1, .ref (a 0)), (0, .ref b)] → W p l e room_1 s m #[Value.ref b] below meth c H locs 27 625 (lw_Z below #[Value.ref b] s) (F0 m 28 ls []) := by
  obtain ⟨hx, hb, hr, hml, hown, hts0, hX, hbl, hlocks, hgv⟩ := id C0
  have hts : ∀ w ∈ lw_all, w.before #[Value.ref b] s = true := fun w h => hts0 w (lw_all_tbl h)
  have SF : CallFix p m c code 4 s #[Value.ref b] lw_all R_law := ⟨hx, hb, hml, hown, hts⟩
  have hA : ∀ q : Nat, s.heap.size ≤ q → (fun q : Nat => s.heap.size ≤ q) q := fun _ h => h
  have hbA : ¬ (fun q : Nat => s.heap.size ≤ q) b := Nat.not_le.mpr hbl
  intro n
  induction n with
  | zero =>
    intro i hi Ln op fa fb fc inp out rg lo so st ps mt al dp pl pe pm out2 rg2 lo2 so2 st2 H locs ls hLn hop hE hP hD hS hl
    refine lv_iload_n hx hb dL_law_28 rfl (lv_at hl 0 rfl) ?_
    refine lv_aload_n hx hb dL_law_29 rfl (lv_at hl 3 rfl) ?_
    refine va_slen hx hb hX hbl hbA hS dL_law_30 ?_
    refine n_topi (y := nI L) rfl ?_
    refine lv_iconst (v := 5) hx hb dL_law_31 (by decide) ?_
    refine lv_isub hx hb dL_law_32 ?_
    refine lv_icmp_gt (tgt := 331) hx hb dL_law_33 (by decide) (fun c1 => ?_) (fun c1 => ?_)
    · refine lv_iconst (v := 1) hx hb dL_law_331 (by decide) ?_
      refine va_forget hS.2.2 ?_
      refine W.widen (k := 600000) (n := 7290000) (Nat.le_of_ble_eq_true rfl) (Nat.le_of_ble_eq_true rfl) ?_
      exact lw_ret hx hb hr hlocks dL_law_332
    · exact absurd ((z_gt (by omega) (by omega)).mpr (by omega)) c1
  | succ n ih =>
    intro i hi Ln op fa fb fc inp out rg lo so st ps mt al dp pl pe pm out2 rg2 lo2 so2 st2 H locs ls hLn hop hE hP hD hS hl
    refine lv_iload_n hx hb dL_law_28 rfl (lv_at hl 0 rfl) ?_
    refine lv_aload_n hx hb dL_law_29 rfl (lv_at hl 3 rfl) ?_
    refine va_slen hx hb hX hbl hbA hS dL_law_30 ?_
    refine n_topi (y := nI L) rfl ?_
    refine lv_iconst (v := 5) hx hb dL_law_31 (by decide) ?_
    refine lv_isub hx hb dL_law_32 ?_
    refine lv_icmp_gt (tgt := 331) hx hb dL_law_33 (by decide) (fun c1 => ?_) (fun c1 => ?_)
    · refine lv_iconst (v := 1) hx hb dL_law_331 (by decide) ?_
      refine va_forget hS.2.2 ?_
      refine W.widen (k := 600000) (n := 7290000) (Nat.le_of_ble_eq_true rfl) (Nat.le_of_ble_eq_true rfl) ?_
      exact lw_ret hx hb hr hlocks dL_law_332
    · have hin : i + 5 ≤ L := Nat.le_of_not_lt fun q => c1 ((z_gt (by omega) (by omega)).mpr q)
      refine lv_aload_n hx hb dL_law_36 rfl (lv_at hl 3 rfl) ?_
      refine lv_iload_n hx hb dL_law_37 rfl (lv_at hl 0 rfl) ?_
      refine n_sld hx hb hX hbl hbA hS i rfl (by omega) (by omega) dL_law_38 ?_
      refine lv_bipush (v := 15) hx hb dL_law_39 (by decide) ?_
      refine lv_iand hx hb dL_law_41 ?_
      refine n_topi (y := nI (m16 (xs i))) (e16 _) ?_
      have hq16 := m16_lt (xs i)
      generalize m16 (xs i) = q at hq16 ⊢
      rcases (show q = 0 ∨ q = 1 ∨ q = 2 ∨ q = 3 ∨ q = 4 ∨ q = 5 ∨ q = 6 ∨ q = 7 ∨ q = 8 ∨ 9 ≤ q by omega) with rfl | rfl | rfl | rfl | rfl | rfl | rfl | rfl | rfl | hq9
      · refine lv_tableIn (tgt := 92) (off := 50) hx hb dL_law_42 (by decide +kernel) (by decide +kernel) (by decide +kernel) (by decide) ?_
        refine lv_aload_n hx hb dL_law_92 rfl (lv_at hl 2 rfl) ?_
        refine lv_aload_n hx hb dL_law_93 rfl (lv_at hl 3 rfl) ?_
        refine lv_iload_n hx hb dL_law_94 rfl (lv_at hl 0 rfl) ?_
        refine lv_iconst (v := 1) hx hb dL_law_95 (by decide) ?_
        refine lv_iadd hx hb dL_law_96 ?_
        refine n_sld hx hb hX hbl hbA hS (i + 1) (nI_add i 1) (by omega) (by omega) dL_law_97 ?_
        refine lv_aload_n hx hb dL_law_98 rfl (lv_at hl 3 rfl) ?_
        refine lv_iload_n hx hb dL_law_99 rfl (lv_at hl 0 rfl) ?_
        refine lv_iconst (v := 2) hx hb dL_law_100 (by decide) ?_
        refine lv_iadd hx hb dL_law_101 ?_
        refine n_sld hx hb hX hbl hbA hS (i + 2) (nI_add i 2) (by omega) (by omega) dL_law_102 ?_
        refine lv_aload_n hx hb dL_law_103 rfl (lv_at hl 3 rfl) ?_
        refine lv_iload_n hx hb dL_law_104 rfl (lv_at hl 0 rfl) ?_
        refine lv_iconst (v := 3) hx hb dL_law_105 (by decide) ?_
        refine lv_iadd hx hb dL_law_106 ?_
        refine n_sld hx hb hX hbl hbA hS (i + 3) (nI_add i 3) (by omega) (by omega) dL_law_107 ?_
        refine lv_aload_n hx hb dL_law_108 rfl (lv_at hl 3 rfl) ?_
        refine lv_iload_n hx hb dL_law_109 rfl (lv_at hl 0 rfl) ?_
        refine lv_iconst (v := 4) hx hb dL_law_110 (by decide) ?_
        refine lv_iadd hx hb dL_law_111 ?_
        refine n_sld hx hb hX hbl hbA hS (i + 4) (nI_add i 4) (by omega) (by omega) dL_law_112 ?_
        refine n_call2i (As := [.int (xs (i + 1)), .int (xs (i + 2)), .int (xs (i + 3)), .int (xs (i + 4))]) (rest := []) (wc := w1 a cI cJ (nI T) (nI Ln) op fa fb fc inp out rg lo so st ps mt al dp pl pe pm) (wr := w2 a2 cI (nI T) (nI Ln) op fa fb fc inp out2 rg2 lo2 so2 st2) SF (mX1_emit l dC dI a cI cJ _ T Ln op fa fb fc inp out rg lo so st ps mt al dp pl pe pm (xs (i + 1)) (xs (i + 2)) (xs (i + 3)) (xs (i + 4)) hLn) (cwV 4 hts (lw_V q86 q87 q88 q16 q89) rfl rfl rfl (by decide +kernel) ⟨Nat.le_of_ble_eq_true rfl, Nat.le_of_ble_eq_true rfl⟩) hK hP hD hS hA 0 0 rfl rfl rfl rfl hl.1 rfl (Nat.le_of_ble_eq_true rfl) dL_law_113 ⟨Nat.le_of_ble_eq_true rfl, Nat.le_of_ble_eq_true rfl⟩ (fun r1 u H locs er1 hP hD hS => ?_)
        have hP : va_P (dC, dI) vwCl ((w2 a2 cI (nI T) (nI Ln) op fa fb fc inp out2 rg2 lo2 so2 st2) ++ (w1 a cI cJ (nI T) (nI u.1) u.2.1 u.2.2.1 u.2.2.2.1 u.2.2.2.2 inp out rg lo so st ps mt al dp pl pe pm)) H := hP
        have hD : va_D (fun q : Nat => s.heap.size ≤ q) ((w2 a2 cI (nI T) (nI Ln) op fa fb fc inp out2 rg2 lo2 so2 st2) ++ (w1 a cI cJ (nI T) (nI u.1) u.2.1 u.2.2.1 u.2.2.2.1 u.2.2.2.2 inp out rg lo so st ps mt al dp pl pe pm)) := hD
        refine lv_aload_n hx hb dL_law_116 rfl (lv_at hl 1 rfl) ?_
        refine lv_aload_n hx hb dL_law_117 rfl (lv_at hl 3 rfl) ?_
        refine lv_iload_n hx hb dL_law_118 rfl (lv_at hl 0 rfl) ?_
        refine lv_iconst (v := 1) hx hb dL_law_119 (by decide) ?_
        refine lv_iadd hx hb dL_law_120 ?_
        refine n_sld hx hb hX hbl hbA hS (i + 1) (nI_add i 1) (by omega) (by omega) dL_law_121 ?_
        refine lv_aload_n hx hb dL_law_122 rfl (lv_at hl 3 rfl) ?_
        refine lv_iload_n hx hb dL_law_123 rfl (lv_at hl 0 rfl) ?_
        refine lv_iconst (v := 2) hx hb dL_law_124 (by decide) ?_
        refine lv_iadd hx hb dL_law_125 ?_
        refine n_sld hx hb hX hbl hbA hS (i + 2) (nI_add i 2) (by omega) (by omega) dL_law_126 ?_
        refine lv_aload_n hx hb dL_law_127 rfl (lv_at hl 3 rfl) ?_
        refine lv_iload_n hx hb dL_law_128 rfl (lv_at hl 0 rfl) ?_
        refine lv_iconst (v := 3) hx hb dL_law_129 (by decide) ?_
        refine lv_iadd hx hb dL_law_130 ?_
        refine n_sld hx hb hX hbl hbA hS (i + 3) (nI_add i 3) (by omega) (by omega) dL_law_131 ?_
        refine lv_aload_n hx hb dL_law_132 rfl (lv_at hl 3 rfl) ?_
        refine lv_iload_n hx hb dL_law_133 rfl (lv_at hl 0 rfl) ?_
        refine lv_iconst (v := 4) hx hb dL_law_134 (by decide) ?_
        refine lv_iadd hx hb dL_law_135 ?_
        refine n_sld hx hb hX hbl hbA hS (i + 4) (nI_add i 4) (by omega) (by omega) dL_law_136 ?_
        refine n_call2i (As := [.int (xs (i + 1)), .int (xs (i + 2)), .int (xs (i + 3)), .int (xs (i + 4))]) (rest := [.int r1]) (wc := w2 a2 cI (nI T) (nI Ln) op fa fb fc inp out2 rg2 lo2 so2 st2) (wr := w1 a cI cJ (nI T) (nI u.1) u.2.1 u.2.2.1 u.2.2.2.1 u.2.2.2.2 inp out rg lo so st ps mt al dp pl pe pm) SF (mX2_emit l dC dI a2 cI cJ _ T Ln op fa fb fc inp out2 rg2 lo2 so2 st2 (xs (i + 1)) (xs (i + 2)) (xs (i + 3)) (xs (i + 4)) hLn) (cwV 4 hts (lw_V q220 q221 q222 q17 q223) rfl rfl rfl (by decide +kernel) ⟨Nat.le_of_ble_eq_true rfl, Nat.le_of_ble_eq_true rfl⟩) hK hP hD hS hA 0 1 rfl rfl rfl rfl hl.1 rfl (Nat.le_of_ble_eq_true rfl) dL_law_137 ⟨Nat.le_of_ble_eq_true rfl, Nat.le_of_ble_eq_true rfl⟩ (fun r2 u2 H locs er2 hP hD hS => ?_)
        have hP : va_P (dC, dI) vwCl ((w1 a cI cJ (nI T) (nI u.1) u.2.1 u.2.2.1 u.2.2.2.1 u.2.2.2.2 inp out rg lo so st ps mt al dp pl pe pm) ++ (w2 a2 cI (nI T) (nI u2.1) u2.2.1 u2.2.2.1 u2.2.2.2.1 u2.2.2.2.2 inp out2 rg2 lo2 so2 st2)) H := hP
        have hD : va_D (fun q : Nat => s.heap.size ≤ q) ((w1 a cI cJ (nI T) (nI u.1) u.2.1 u.2.2.1 u.2.2.2.1 u.2.2.2.2 inp out rg lo so st ps mt al dp pl pe pm) ++ (w2 a2 cI (nI T) (nI u2.1) u2.2.1 u2.2.2.1 u2.2.2.2.1 u2.2.2.2.2 inp out2 rg2 lo2 so2 st2)) := hD
        obtain ⟨e1, e2⟩ := emR_det er1 er2
        subst e2
        obtain ⟨hLn1, hop1⟩ := emR_ok er1 hLn hop
        refine lv_icmp_eq (tgt := 325) hx hb dL_law_140 (by decide) (fun c2 => ?_) (fun c2 => ?_)
        · refine lv_iinc (v := nI (i + 5)) (lv' := [(3, .int (nI (i + 5))), (2, .ref (a2 0)), (1, .ref (a 0)), (0, .ref b)]) hx hb dL_law_325 hl (k := 0) rfl (nI_add i 5) (by decide) rfl (fun ls hl => ?_)
          refine lv_goto (tgt := 28) hx hb dL_law_328 (by decide) ?_
          exact ih (i + 5) (by omega) _ _ _ _ _ _ _ _ _ _ _ _ _ _ _ _ _ _ _ _ _ _ _ H locs ls hLn1 hop1 hE hP hD hS hl
        · exact absurd e1 c2
      · refine lv_tableIn (tgt := 145) (off := 103) hx hb dL_law_42 (by decide +kernel) (by decide +kernel) (by decide +kernel) (by decide) ?_
        refine lv_aload_n hx hb dL_law_145 rfl (lv_at hl 2 rfl) ?_
        refine n_call2v (As := []) (rest := []) (wc := w1 a cI cJ (nI T) (nI Ln) op fa fb fc inp out rg lo so st ps mt al dp pl pe pm) (wr := w2 a2 cI (nI T) (nI Ln) op fa fb fc inp out2 rg2 lo2 so2 st2) SF (mX1_clear l dC dI a cI cJ _ T Ln op fa fb fc inp out rg lo so st ps mt al dp pl pe pm) (cwV 0 hts (lw_V q90 q91 q92 q16 q93) rfl rfl rfl (by decide +kernel) ⟨Nat.le_of_ble_eq_true rfl, Nat.le_of_ble_eq_true rfl⟩) hK hP hD hS hA 0 0 rfl rfl rfl rfl hl.1 rfl (Nat.le_of_ble_eq_true rfl) dL_law_146 ⟨Nat.le_of_ble_eq_true rfl, Nat.le_of_ble_eq_true rfl⟩ (fun _ H locs _ hP hD hS => ?_)
        have hP : va_P (dC, dI) vwCl ((w2 a2 cI (nI T) (nI Ln) op fa fb fc inp out2 rg2 lo2 so2 st2) ++ (w1 a cI cJ (nI T) 0 op fa fb fc inp out rg lo so st ps mt al dp pl pe pm)) H := hP
        have hD : va_D (fun q : Nat => s.heap.size ≤ q) ((w2 a2 cI (nI T) (nI Ln) op fa fb fc inp out2 rg2 lo2 so2 st2) ++ (w1 a cI cJ (nI T) 0 op fa fb fc inp out rg lo so st ps mt al dp pl pe pm)) := hD
        refine lv_aload_n hx hb dL_law_149 rfl (lv_at hl 1 rfl) ?_
        refine n_call2v (As := []) (rest := []) (wc := w2 a2 cI (nI T) (nI Ln) op fa fb fc inp out2 rg2 lo2 so2 st2) (wr := w1 a cI cJ (nI T) 0 op fa fb fc inp out rg lo so st ps mt al dp pl pe pm) SF (mX2_clear l dC dI a2 cI cJ _ T Ln op fa fb fc inp out2 rg2 lo2 so2 st2) (cwV 0 hts (lw_V q224 q225 q226 q17 q227) rfl rfl rfl (by decide +kernel) ⟨Nat.le_of_ble_eq_true rfl, Nat.le_of_ble_eq_true rfl⟩) hK hP hD hS hA 0 1 rfl rfl rfl rfl hl.1 rfl (Nat.le_of_ble_eq_true rfl) dL_law_150 ⟨Nat.le_of_ble_eq_true rfl, Nat.le_of_ble_eq_true rfl⟩ (fun _ H locs _ hP hD hS => ?_)
        have hP : va_P (dC, dI) vwCl ((w1 a cI cJ (nI T) 0 op fa fb fc inp out rg lo so st ps mt al dp pl pe pm) ++ (w2 a2 cI (nI T) 0 op fa fb fc inp out2 rg2 lo2 so2 st2)) H := hP
        have hD : va_D (fun q : Nat => s.heap.size ≤ q) ((w1 a cI cJ (nI T) 0 op fa fb fc inp out rg lo so st ps mt al dp pl pe pm) ++ (w2 a2 cI (nI T) 0 op fa fb fc inp out2 rg2 lo2 so2 st2)) := hD
        refine lv_goto (tgt := 325) hx hb dL_law_153 (by decide) ?_
        refine lv_iinc (v := nI (i + 5)) (lv' := [(3, .int (nI (i + 5))), (2, .ref (a2 0)), (1, .ref (a 0)), (0, .ref b)]) hx hb dL_law_325 hl (k := 0) rfl (nI_add i 5) (by decide) rfl (fun ls hl => ?_)
        refine lv_goto (tgt := 28) hx hb dL_law_328 (by decide) ?_
        exact ih (i + 5) (by omega) 0 _ _ _ _ _ _ _ _ _ _ _ _ _ _ _ _ _ _ _ _ _ _ H locs ls (by omega) hop hE hP hD hS hl
      · refine lv_tableIn (tgt := 156) (off := 114) hx hb dL_law_42 (by decide +kernel) (by decide +kernel) (by decide +kernel) (by decide) ?_
        refine lv_aload_n hx hb dL_law_156 rfl (lv_at hl 2 rfl) ?_
        refine lv_aload_n hx hb dL_law_157 rfl (lv_at hl 3 rfl) ?_
        refine lv_iload_n hx hb dL_law_158 rfl (lv_at hl 0 rfl) ?_
        refine lv_iconst (v := 1) hx hb dL_law_159 (by decide) ?_
        refine lv_iadd hx hb dL_law_160 ?_
        refine n_sld hx hb hX hbl hbA hS (i + 1) (nI_add i 1) (by omega) (by omega) dL_law_161 ?_
        refine lv_aload_n hx hb dL_law_162 rfl (lv_at hl 3 rfl) ?_
        refine lv_iload_n hx hb dL_law_163 rfl (lv_at hl 0 rfl) ?_
        refine lv_iconst (v := 2) hx hb dL_law_164 (by decide) ?_
        refine lv_iadd hx hb dL_law_165 ?_
        refine n_sld hx hb hX hbl hbA hS (i + 2) (nI_add i 2) (by omega) (by omega) dL_law_166 ?_
        refine n_call2v (As := [.int (xs (i + 1)), .int (xs (i + 2))]) (rest := []) (wc := w1 a cI cJ (nI T) (nI Ln) op fa fb fc inp out rg lo so st ps mt al dp pl pe pm) (wr := w2 a2 cI (nI T) (nI Ln) op fa fb fc inp out2 rg2 lo2 so2 st2) SF (mX1_input l dC dI a cI cJ _ T Ln op fa fb fc inp out rg lo so st ps mt al dp pl pe pm (xs (i + 1)) (xs (i + 2))) (cwV 2 hts (lw_V q94 q95 q96 q16 q97) rfl rfl rfl (by decide +kernel) ⟨Nat.le_of_ble_eq_true rfl, Nat.le_of_ble_eq_true rfl⟩) hK hP hD hS hA 0 0 rfl rfl rfl rfl hl.1 rfl (Nat.le_of_ble_eq_true rfl) dL_law_167 ⟨Nat.le_of_ble_eq_true rfl, Nat.le_of_ble_eq_true rfl⟩ (fun _ H locs _ hP hD hS => ?_)
        have hP : va_P (dC, dI) vwCl ((w2 a2 cI (nI T) (nI Ln) op fa fb fc inp out2 rg2 lo2 so2 st2) ++ (w1 a cI cJ (nI T) (nI Ln) op fa fb fc (upd inp (m16 (xs (i + 1))) (xs (i + 2))) out rg lo so st ps mt al dp pl pe pm)) H := hP
        have hD : va_D (fun q : Nat => s.heap.size ≤ q) ((w2 a2 cI (nI T) (nI Ln) op fa fb fc inp out2 rg2 lo2 so2 st2) ++ (w1 a cI cJ (nI T) (nI Ln) op fa fb fc (upd inp (m16 (xs (i + 1))) (xs (i + 2))) out rg lo so st ps mt al dp pl pe pm)) := hD
        refine lv_aload_n hx hb dL_law_170 rfl (lv_at hl 1 rfl) ?_
        refine lv_aload_n hx hb dL_law_171 rfl (lv_at hl 3 rfl) ?_
        refine lv_iload_n hx hb dL_law_172 rfl (lv_at hl 0 rfl) ?_
        refine lv_iconst (v := 1) hx hb dL_law_173 (by decide) ?_
        refine lv_iadd hx hb dL_law_174 ?_
        refine n_sld hx hb hX hbl hbA hS (i + 1) (nI_add i 1) (by omega) (by omega) dL_law_175 ?_
        refine lv_aload_n hx hb dL_law_176 rfl (lv_at hl 3 rfl) ?_
        refine lv_iload_n hx hb dL_law_177 rfl (lv_at hl 0 rfl) ?_
        refine lv_iconst (v := 2) hx hb dL_law_178 (by decide) ?_
        refine lv_iadd hx hb dL_law_179 ?_
        refine n_sld hx hb hX hbl hbA hS (i + 2) (nI_add i 2) (by omega) (by omega) dL_law_180 ?_
        refine n_call2v (As := [.int (xs (i + 1)), .int (xs (i + 2))]) (rest := []) (wc := w2 a2 cI (nI T) (nI Ln) op fa fb fc inp out2 rg2 lo2 so2 st2) (wr := w1 a cI cJ (nI T) (nI Ln) op fa fb fc (upd inp (m16 (xs (i + 1))) (xs (i + 2))) out rg lo so st ps mt al dp pl pe pm) SF (mX2_input l dC dI a2 cI cJ _ T Ln op fa fb fc inp out2 rg2 lo2 so2 st2 (xs (i + 1)) (xs (i + 2))) (cwV 2 hts (lw_V q228 q229 q230 q17 q231) rfl rfl rfl (by decide +kernel) ⟨Nat.le_of_ble_eq_true rfl, Nat.le_of_ble_eq_true rfl⟩) hK hP hD hS hA 0 1 rfl rfl rfl rfl hl.1 rfl (Nat.le_of_ble_eq_true rfl) dL_law_181 ⟨Nat.le_of_ble_eq_true rfl, Nat.le_of_ble_eq_true rfl⟩ (fun _ H locs _ hP hD hS => ?_)
        have hP : va_P (dC, dI) vwCl ((w1 a cI cJ (nI T) (nI Ln) op fa fb fc (upd inp (m16 (xs (i + 1))) (xs (i + 2))) out rg lo so st ps mt al dp pl pe pm) ++ (w2 a2 cI (nI T) (nI Ln) op fa fb fc (upd inp (m16 (xs (i + 1))) (xs (i + 2))) out2 rg2 lo2 so2 st2)) H := hP
        have hD : va_D (fun q : Nat => s.heap.size ≤ q) ((w1 a cI cJ (nI T) (nI Ln) op fa fb fc (upd inp (m16 (xs (i + 1))) (xs (i + 2))) out rg lo so st ps mt al dp pl pe pm) ++ (w2 a2 cI (nI T) (nI Ln) op fa fb fc (upd inp (m16 (xs (i + 1))) (xs (i + 2))) out2 rg2 lo2 so2 st2)) := hD
        refine lv_goto (tgt := 325) hx hb dL_law_184 (by decide) ?_
        refine lv_iinc (v := nI (i + 5)) (lv' := [(3, .int (nI (i + 5))), (2, .ref (a2 0)), (1, .ref (a 0)), (0, .ref b)]) hx hb dL_law_325 hl (k := 0) rfl (nI_add i 5) (by decide) rfl (fun ls hl => ?_)
        refine lv_goto (tgt := 28) hx hb dL_law_328 (by decide) ?_
        exact ih (i + 5) (by omega) Ln _ _ _ _ _ _ _ _ _ _ _ _ _ _ _ _ _ _ _ _ _ _ H locs ls hLn hop hE hP hD hS hl
      · refine lv_tableIn (tgt := 187) (off := 145) hx hb dL_law_42 (by decide +kernel) (by decide +kernel) (by decide +kernel) (by decide) ?_
        refine lv_aload_n hx hb dL_law_187 rfl (lv_at hl 2 rfl) ?_
        refine n_call2i (As := []) (rest := []) (wc := w1 a cI cJ (nI T) (nI Ln) op fa fb fc inp out rg lo so st ps mt al dp pl pe pm) (wr := w2 a2 cI (nI T) (nI Ln) op fa fb fc inp out2 rg2 lo2 so2 st2) SF (mX1_run l dC dI a cI cJ _ T Ln op fa fb fc inp out rg lo so st ps mt al dp pl pe pm hT hLn) (cwV 0 hts (lw_V q98 q99 q100 q16 q101) rfl rfl rfl (by decide +kernel) ⟨Nat.le_of_ble_eq_true rfl, Nat.le_of_ble_eq_true rfl⟩) hK hP hD hS hA 0 0 rfl rfl rfl rfl hl.1 rfl (Nat.le_of_ble_eq_true rfl) dL_law_188 ⟨Nat.le_of_ble_eq_true rfl, Nat.le_of_ble_eq_true rfl⟩ (fun r1 u H locs er1 hP hD hS => ?_)
        have hP : va_P (dC, dI) vwCl ((w2 a2 cI (nI T) (nI Ln) op fa fb fc inp out2 rg2 lo2 so2 st2) ++ (w1 a cI cJ (nI T) (nI Ln) op fa fb fc inp u.1 u.2.1 u.2.2.1 u.2.2.2.1 u.2.2.2.2.1 u.2.2.2.2.2.1 u.2.2.2.2.2.2.1 u.2.2.2.2.2.2.2.1 u.2.2.2.2.2.2.2.2.1 u.2.2.2.2.2.2.2.2.2.1 u.2.2.2.2.2.2.2.2.2.2.1 u.2.2.2.2.2.2.2.2.2.2.2)) H := hP
        have hD : va_D (fun q : Nat => s.heap.size ≤ q) ((w2 a2 cI (nI T) (nI Ln) op fa fb fc inp out2 rg2 lo2 so2 st2) ++ (w1 a cI cJ (nI T) (nI Ln) op fa fb fc inp u.1 u.2.1 u.2.2.1 u.2.2.2.1 u.2.2.2.2.1 u.2.2.2.2.2.1 u.2.2.2.2.2.2.1 u.2.2.2.2.2.2.2.1 u.2.2.2.2.2.2.2.2.1 u.2.2.2.2.2.2.2.2.2.1 u.2.2.2.2.2.2.2.2.2.2.1 u.2.2.2.2.2.2.2.2.2.2.2)) := hD
        refine lv_aload_n hx hb dL_law_191 rfl (lv_at hl 1 rfl) ?_
        refine n_call2i (As := []) (rest := [.int r1]) (wc := w2 a2 cI (nI T) (nI Ln) op fa fb fc inp out2 rg2 lo2 so2 st2) (wr := w1 a cI cJ (nI T) (nI Ln) op fa fb fc inp u.1 u.2.1 u.2.2.1 u.2.2.2.1 u.2.2.2.2.1 u.2.2.2.2.2.1 u.2.2.2.2.2.2.1 u.2.2.2.2.2.2.2.1 u.2.2.2.2.2.2.2.2.1 u.2.2.2.2.2.2.2.2.2.1 u.2.2.2.2.2.2.2.2.2.2.1 u.2.2.2.2.2.2.2.2.2.2.2) SF (mX2_run l dC dI a2 cI cJ _ T Ln op fa fb fc inp out2 rg2 lo2 so2 st2 hT hLn hop) (cwV 0 hts (lw_V q232 q233 q234 q17 q235) rfl rfl rfl (by decide +kernel) ⟨Nat.le_of_ble_eq_true rfl, Nat.le_of_ble_eq_true rfl⟩) hK hP hD hS hA 0 1 rfl rfl rfl rfl hl.1 rfl (Nat.le_of_ble_eq_true rfl) dL_law_192 ⟨Nat.le_of_ble_eq_true rfl, Nat.le_of_ble_eq_true rfl⟩ (fun r2 u2 H locs er2 hP hD hS => ?_)
        have hP : va_P (dC, dI) vwCl ((w1 a cI cJ (nI T) (nI Ln) op fa fb fc inp u.1 u.2.1 u.2.2.1 u.2.2.2.1 u.2.2.2.2.1 u.2.2.2.2.2.1 u.2.2.2.2.2.2.1 u.2.2.2.2.2.2.2.1 u.2.2.2.2.2.2.2.2.1 u.2.2.2.2.2.2.2.2.2.1 u.2.2.2.2.2.2.2.2.2.2.1 u.2.2.2.2.2.2.2.2.2.2.2) ++ (w2 a2 cI (nI T) (nI Ln) op fa fb fc inp u2.1 u2.2.1 u2.2.2.1 u2.2.2.2.1 u2.2.2.2.2)) H := hP
        have hD : va_D (fun q : Nat => s.heap.size ≤ q) ((w1 a cI cJ (nI T) (nI Ln) op fa fb fc inp u.1 u.2.1 u.2.2.1 u.2.2.2.1 u.2.2.2.2.1 u.2.2.2.2.2.1 u.2.2.2.2.2.2.1 u.2.2.2.2.2.2.2.1 u.2.2.2.2.2.2.2.2.1 u.2.2.2.2.2.2.2.2.2.1 u.2.2.2.2.2.2.2.2.2.2.1 u.2.2.2.2.2.2.2.2.2.2.2) ++ (w2 a2 cI (nI T) (nI Ln) op fa fb fc inp u2.1 u2.2.1 u2.2.2.1 u2.2.2.2.1 u2.2.2.2.2)) := hD
        refine lv_icmp_eq (tgt := 325) hx hb dL_law_195 (by decide) (fun c2 => ?_) (fun c2 => ?_)
        · refine lv_iinc (v := nI (i + 5)) (lv' := [(3, .int (nI (i + 5))), (2, .ref (a2 0)), (1, .ref (a 0)), (0, .ref b)]) hx hb dL_law_325 hl (k := 0) rfl (nI_add i 5) (by decide) rfl (fun ls hl => ?_)
          refine lv_goto (tgt := 28) hx hb dL_law_328 (by decide) ?_
          exact ih (i + 5) (by omega) Ln _ _ _ _ _ _ _ _ _ _ _ _ _ _ _ _ _ _ _ _ _ _ H locs ls hLn hop (finR_eq er1.2 er2.2) hP hD hS hl
        · exact absurd (er1.1.trans er2.1.symm) c2
      · refine lv_tableIn (tgt := 200) (off := 158) hx hb dL_law_42 (by decide +kernel) (by decide +kernel) (by decide +kernel) (by decide) ?_
        refine lv_aload_n hx hb dL_law_200 rfl (lv_at hl 2 rfl) ?_
        refine lv_aload_n hx hb dL_law_201 rfl (lv_at hl 3 rfl) ?_
        refine lv_iload_n hx hb dL_law_202 rfl (lv_at hl 0 rfl) ?_
        refine lv_iconst (v := 1) hx hb dL_law_203 (by decide) ?_
        refine lv_iadd hx hb dL_law_204 ?_
        refine n_sld hx hb hX hbl hbA hS (i + 1) (nI_add i 1) (by omega) (by omega) dL_law_205 ?_
        refine lv_aload_n hx hb dL_law_206 rfl (lv_at hl 3 rfl) ?_
        refine lv_iload_n hx hb dL_law_207 rfl (lv_at hl 0 rfl) ?_
        refine lv_iconst (v := 2) hx hb dL_law_208 (by decide) ?_
        refine lv_iadd hx hb dL_law_209 ?_
        refine n_sld hx hb hX hbl hbA hS (i + 2) (nI_add i 2) (by omega) (by omega) dL_law_210 ?_
        refine n_call2i (As := [.int (xs (i + 1)), .int (xs (i + 2))]) (rest := []) (wc := w1 a cI cJ (nI T) (nI Ln) op fa fb fc inp out rg lo so st ps mt al dp pl pe pm) (wr := w2 a2 cI (nI T) (nI Ln) op fa fb fc inp out2 rg2 lo2 so2 st2) SF (mX1_reg l dC dI a cI cJ _ T Ln op fa fb fc inp out rg lo so st ps mt al dp pl pe pm (xs (i + 1)) (xs (i + 2)) hT) (cwV 2 hts (lw_V q150 q151 q152 q16 q153) rfl rfl rfl (by decide +kernel) ⟨Nat.le_of_ble_eq_true rfl, Nat.le_of_ble_eq_true rfl⟩) hK hP hD hS hA 0 0 rfl rfl rfl rfl hl.1 rfl (Nat.le_of_ble_eq_true rfl) dL_law_211 ⟨Nat.le_of_ble_eq_true rfl, Nat.le_of_ble_eq_true rfl⟩ (fun r1 _ H locs er1 hP hD hS => ?_)
        have hP : va_P (dC, dI) vwCl ((w2 a2 cI (nI T) (nI Ln) op fa fb fc inp out2 rg2 lo2 so2 st2) ++ (w1 a cI cJ (nI T) (nI Ln) op fa fb fc inp out rg lo so st ps mt al dp pl pe pm)) H := hP
        have hD : va_D (fun q : Nat => s.heap.size ≤ q) ((w2 a2 cI (nI T) (nI Ln) op fa fb fc inp out2 rg2 lo2 so2 st2) ++ (w1 a cI cJ (nI T) (nI Ln) op fa fb fc inp out rg lo so st ps mt al dp pl pe pm)) := hD
        refine lv_aload_n hx hb dL_law_214 rfl (lv_at hl 1 rfl) ?_
        refine lv_aload_n hx hb dL_law_215 rfl (lv_at hl 3 rfl) ?_
        refine lv_iload_n hx hb dL_law_216 rfl (lv_at hl 0 rfl) ?_
        refine lv_iconst (v := 1) hx hb dL_law_217 (by decide) ?_
        refine lv_iadd hx hb dL_law_218 ?_
        refine n_sld hx hb hX hbl hbA hS (i + 1) (nI_add i 1) (by omega) (by omega) dL_law_219 ?_
        refine lv_aload_n hx hb dL_law_220 rfl (lv_at hl 3 rfl) ?_
        refine lv_iload_n hx hb dL_law_221 rfl (lv_at hl 0 rfl) ?_
        refine lv_iconst (v := 2) hx hb dL_law_222 (by decide) ?_
        refine lv_iadd hx hb dL_law_223 ?_
        refine n_sld hx hb hX hbl hbA hS (i + 2) (nI_add i 2) (by omega) (by omega) dL_law_224 ?_
        refine n_call2i (As := [.int (xs (i + 1)), .int (xs (i + 2))]) (rest := [.int r1]) (wc := w2 a2 cI (nI T) (nI Ln) op fa fb fc inp out2 rg2 lo2 so2 st2) (wr := w1 a cI cJ (nI T) (nI Ln) op fa fb fc inp out rg lo so st ps mt al dp pl pe pm) SF (mX2_reg l dC dI a2 cI cJ _ T Ln op fa fb fc inp out2 rg2 lo2 so2 st2 (xs (i + 1)) (xs (i + 2)) hT) (cwV 2 hts (lw_V q247 q248 q249 q17 q250) rfl rfl rfl (by decide +kernel) ⟨Nat.le_of_ble_eq_true rfl, Nat.le_of_ble_eq_true rfl⟩) hK hP hD hS hA 0 1 rfl rfl rfl rfl hl.1 rfl (Nat.le_of_ble_eq_true rfl) dL_law_225 ⟨Nat.le_of_ble_eq_true rfl, Nat.le_of_ble_eq_true rfl⟩ (fun r2 _ H locs er2 hP hD hS => ?_)
        have hP : va_P (dC, dI) vwCl ((w1 a cI cJ (nI T) (nI Ln) op fa fb fc inp out rg lo so st ps mt al dp pl pe pm) ++ (w2 a2 cI (nI T) (nI Ln) op fa fb fc inp out2 rg2 lo2 so2 st2)) H := hP
        have hD : va_D (fun q : Nat => s.heap.size ≤ q) ((w1 a cI cJ (nI T) (nI Ln) op fa fb fc inp out rg lo so st ps mt al dp pl pe pm) ++ (w2 a2 cI (nI T) (nI Ln) op fa fb fc inp out2 rg2 lo2 so2 st2)) := hD
        refine lv_icmp_eq (tgt := 325) hx hb dL_law_228 (by decide) (fun c2 => ?_) (fun c2 => ?_)
        · refine lv_iinc (v := nI (i + 5)) (lv' := [(3, .int (nI (i + 5))), (2, .ref (a2 0)), (1, .ref (a 0)), (0, .ref b)]) hx hb dL_law_325 hl (k := 0) rfl (nI_add i 5) (by decide) rfl (fun ls hl => ?_)
          refine lv_goto (tgt := 28) hx hb dL_law_328 (by decide) ?_
          exact ih (i + 5) (by omega) Ln _ _ _ _ _ _ _ _ _ _ _ _ _ _ _ _ _ _ _ _ _ _ H locs ls hLn hop hE hP hD hS hl
        · exact absurd (get_eq (f := fun j => rg (4 * j + m4 (xs (i + 2)))) (f2 := fun j => rg2 (4 * j + m4 (xs (i + 2)))) hT (fun t ht => (hE.2 t ht).1 _ (m4_lt _)) er1 er2) c2
      · refine lv_tableIn (tgt := 233) (off := 191) hx hb dL_law_42 (by decide +kernel) (by decide +kernel) (by decide +kernel) (by decide) ?_
        refine lv_aload_n hx hb dL_law_233 rfl (lv_at hl 2 rfl) ?_
        refine lv_aload_n hx hb dL_law_234 rfl (lv_at hl 3 rfl) ?_
        refine lv_iload_n hx hb dL_law_235 rfl (lv_at hl 0 rfl) ?_
        refine lv_iconst (v := 1) hx hb dL_law_236 (by decide) ?_
        refine lv_iadd hx hb dL_law_237 ?_
        refine n_sld hx hb hX hbl hbA hS (i + 1) (nI_add i 1) (by omega) (by omega) dL_law_238 ?_
        refine n_call2i (As := [.int (xs (i + 1))]) (rest := []) (wc := w1 a cI cJ (nI T) (nI Ln) op fa fb fc inp out rg lo so st ps mt al dp pl pe pm) (wr := w2 a2 cI (nI T) (nI Ln) op fa fb fc inp out2 rg2 lo2 so2 st2) SF (mX1_line l dC dI a cI cJ _ T Ln op fa fb fc inp out rg lo so st ps mt al dp pl pe pm (xs (i + 1)) hT) (cwV 1 hts (lw_V q158 q159 q160 q16 q161) rfl rfl rfl (by decide +kernel) ⟨Nat.le_of_ble_eq_true rfl, Nat.le_of_ble_eq_true rfl⟩) hK hP hD hS hA 0 0 rfl rfl rfl rfl hl.1 rfl (Nat.le_of_ble_eq_true rfl) dL_law_239 ⟨Nat.le_of_ble_eq_true rfl, Nat.le_of_ble_eq_true rfl⟩ (fun r1 _ H locs er1 hP hD hS => ?_)
        have hP : va_P (dC, dI) vwCl ((w2 a2 cI (nI T) (nI Ln) op fa fb fc inp out2 rg2 lo2 so2 st2) ++ (w1 a cI cJ (nI T) (nI Ln) op fa fb fc inp out rg lo so st ps mt al dp pl pe pm)) H := hP
        have hD : va_D (fun q : Nat => s.heap.size ≤ q) ((w2 a2 cI (nI T) (nI Ln) op fa fb fc inp out2 rg2 lo2 so2 st2) ++ (w1 a cI cJ (nI T) (nI Ln) op fa fb fc inp out rg lo so st ps mt al dp pl pe pm)) := hD
        refine lv_aload_n hx hb dL_law_242 rfl (lv_at hl 1 rfl) ?_
        refine lv_aload_n hx hb dL_law_243 rfl (lv_at hl 3 rfl) ?_
        refine lv_iload_n hx hb dL_law_244 rfl (lv_at hl 0 rfl) ?_
        refine lv_iconst (v := 1) hx hb dL_law_245 (by decide) ?_
        refine lv_iadd hx hb dL_law_246 ?_
        refine n_sld hx hb hX hbl hbA hS (i + 1) (nI_add i 1) (by omega) (by omega) dL_law_247 ?_
        refine n_call2i (As := [.int (xs (i + 1))]) (rest := [.int r1]) (wc := w2 a2 cI (nI T) (nI Ln) op fa fb fc inp out2 rg2 lo2 so2 st2) (wr := w1 a cI cJ (nI T) (nI Ln) op fa fb fc inp out rg lo so st ps mt al dp pl pe pm) SF (mX2_line l dC dI a2 cI cJ _ T Ln op fa fb fc inp out2 rg2 lo2 so2 st2 (xs (i + 1)) hT) (cwV 1 hts (lw_V q255 q256 q257 q17 q258) rfl rfl rfl (by decide +kernel) ⟨Nat.le_of_ble_eq_true rfl, Nat.le_of_ble_eq_true rfl⟩) hK hP hD hS hA 0 1 rfl rfl rfl rfl hl.1 rfl (Nat.le_of_ble_eq_true rfl) dL_law_248 ⟨Nat.le_of_ble_eq_true rfl, Nat.le_of_ble_eq_true rfl⟩ (fun r2 _ H locs er2 hP hD hS => ?_)
        have hP : va_P (dC, dI) vwCl ((w1 a cI cJ (nI T) (nI Ln) op fa fb fc inp out rg lo so st ps mt al dp pl pe pm) ++ (w2 a2 cI (nI T) (nI Ln) op fa fb fc inp out2 rg2 lo2 so2 st2)) H := hP
        have hD : va_D (fun q : Nat => s.heap.size ≤ q) ((w1 a cI cJ (nI T) (nI Ln) op fa fb fc inp out rg lo so st ps mt al dp pl pe pm) ++ (w2 a2 cI (nI T) (nI Ln) op fa fb fc inp out2 rg2 lo2 so2 st2)) := hD
        refine lv_icmp_eq (tgt := 325) hx hb dL_law_251 (by decide) (fun c2 => ?_) (fun c2 => ?_)
        · refine lv_iinc (v := nI (i + 5)) (lv' := [(3, .int (nI (i + 5))), (2, .ref (a2 0)), (1, .ref (a 0)), (0, .ref b)]) hx hb dL_law_325 hl (k := 0) rfl (nI_add i 5) (by decide) rfl (fun ls hl => ?_)
          refine lv_goto (tgt := 28) hx hb dL_law_328 (by decide) ?_
          exact ih (i + 5) (by omega) Ln _ _ _ _ _ _ _ _ _ _ _ _ _ _ _ _ _ _ _ _ _ _ H locs ls hLn hop hE hP hD hS hl
        · exact absurd (get_eq hT (fun t ht => (hE.2 t ht).2.1) er1 er2) c2
      · refine lv_tableIn (tgt := 256) (off := 214) hx hb dL_law_42 (by decide +kernel) (by decide +kernel) (by decide +kernel) (by decide) ?_
        refine lv_aload_n hx hb dL_law_256 rfl (lv_at hl 2 rfl) ?_
        refine lv_aload_n hx hb dL_law_257 rfl (lv_at hl 3 rfl) ?_
        refine lv_iload_n hx hb dL_law_258 rfl (lv_at hl 0 rfl) ?_
        refine lv_iconst (v := 1) hx hb dL_law_259 (by decide) ?_
        refine lv_iadd hx hb dL_law_260 ?_
        refine n_sld hx hb hX hbl hbA hS (i + 1) (nI_add i 1) (by omega) (by omega) dL_law_261 ?_
        refine n_call2i (As := [.int (xs (i + 1))]) (rest := []) (wc := w1 a cI cJ (nI T) (nI Ln) op fa fb fc inp out rg lo so st ps mt al dp pl pe pm) (wr := w2 a2 cI (nI T) (nI Ln) op fa fb fc inp out2 rg2 lo2 so2 st2) SF (mX1_steps l dC dI a cI cJ _ T Ln op fa fb fc inp out rg lo so st ps mt al dp pl pe pm (xs (i + 1)) hT) (cwV 1 hts (lw_V q162 q163 q164 q16 q165) rfl rfl rfl (by decide +kernel) ⟨Nat.le_of_ble_eq_true rfl, Nat.le_of_ble_eq_true rfl⟩) hK hP hD hS hA 0 0 rfl rfl rfl rfl hl.1 rfl (Nat.le_of_ble_eq_true rfl) dL_law_262 ⟨Nat.le_of_ble_eq_true rfl, Nat.le_of_ble_eq_true rfl⟩ (fun r1 _ H locs er1 hP hD hS => ?_)
        have hP : va_P (dC, dI) vwCl ((w2 a2 cI (nI T) (nI Ln) op fa fb fc inp out2 rg2 lo2 so2 st2) ++ (w1 a cI cJ (nI T) (nI Ln) op fa fb fc inp out rg lo so st ps mt al dp pl pe pm)) H := hP
        have hD : va_D (fun q : Nat => s.heap.size ≤ q) ((w2 a2 cI (nI T) (nI Ln) op fa fb fc inp out2 rg2 lo2 so2 st2) ++ (w1 a cI cJ (nI T) (nI Ln) op fa fb fc inp out rg lo so st ps mt al dp pl pe pm)) := hD
        refine lv_aload_n hx hb dL_law_265 rfl (lv_at hl 1 rfl) ?_
        refine lv_aload_n hx hb dL_law_266 rfl (lv_at hl 3 rfl) ?_
        refine lv_iload_n hx hb dL_law_267 rfl (lv_at hl 0 rfl) ?_
        refine lv_iconst (v := 1) hx hb dL_law_268 (by decide) ?_
        refine lv_iadd hx hb dL_law_269 ?_
        refine n_sld hx hb hX hbl hbA hS (i + 1) (nI_add i 1) (by omega) (by omega) dL_law_270 ?_
        refine n_call2i (As := [.int (xs (i + 1))]) (rest := [.int r1]) (wc := w2 a2 cI (nI T) (nI Ln) op fa fb fc inp out2 rg2 lo2 so2 st2) (wr := w1 a cI cJ (nI T) (nI Ln) op fa fb fc inp out rg lo so st ps mt al dp pl pe pm) SF (mX2_steps l dC dI a2 cI cJ _ T Ln op fa fb fc inp out2 rg2 lo2 so2 st2 (xs (i + 1)) hT) (cwV 1 hts (lw_V q259 q260 q261 q17 q262) rfl rfl rfl (by decide +kernel) ⟨Nat.le_of_ble_eq_true rfl, Nat.le_of_ble_eq_true rfl⟩) hK hP hD hS hA 0 1 rfl rfl rfl rfl hl.1 rfl (Nat.le_of_ble_eq_true rfl) dL_law_271 ⟨Nat.le_of_ble_eq_true rfl, Nat.le_of_ble_eq_true rfl⟩ (fun r2 _ H locs er2 hP hD hS => ?_)
        have hP : va_P (dC, dI) vwCl ((w1 a cI cJ (nI T) (nI Ln) op fa fb fc inp out rg lo so st ps mt al dp pl pe pm) ++ (w2 a2 cI (nI T) (nI Ln) op fa fb fc inp out2 rg2 lo2 so2 st2)) H := hP
        have hD : va_D (fun q : Nat => s.heap.size ≤ q) ((w1 a cI cJ (nI T) (nI Ln) op fa fb fc inp out rg lo so st ps mt al dp pl pe pm) ++ (w2 a2 cI (nI T) (nI Ln) op fa fb fc inp out2 rg2 lo2 so2 st2)) := hD
        refine lv_icmp_eq (tgt := 325) hx hb dL_law_274 (by decide) (fun c2 => ?_) (fun c2 => ?_)
        · refine lv_iinc (v := nI (i + 5)) (lv' := [(3, .int (nI (i + 5))), (2, .ref (a2 0)), (1, .ref (a 0)), (0, .ref b)]) hx hb dL_law_325 hl (k := 0) rfl (nI_add i 5) (by decide) rfl (fun ls hl => ?_)
          refine lv_goto (tgt := 28) hx hb dL_law_328 (by decide) ?_
          exact ih (i + 5) (by omega) Ln _ _ _ _ _ _ _ _ _ _ _ _ _ _ _ _ _ _ _ _ _ _ H locs ls hLn hop hE hP hD hS hl
        · exact absurd (get_eq hT (fun t ht => (hE.2 t ht).2.2.1) er1 er2) c2
      · refine lv_tableIn (tgt := 279) (off := 237) hx hb dL_law_42 (by decide +kernel) (by decide +kernel) (by decide +kernel) (by decide) ?_
        refine lv_aload_n hx hb dL_law_279 rfl (lv_at hl 2 rfl) ?_
        refine lv_aload_n hx hb dL_law_280 rfl (lv_at hl 3 rfl) ?_
        refine lv_iload_n hx hb dL_law_281 rfl (lv_at hl 0 rfl) ?_
        refine lv_iconst (v := 1) hx hb dL_law_282 (by decide) ?_
        refine lv_iadd hx hb dL_law_283 ?_
        refine n_sld hx hb hX hbl hbA hS (i + 1) (nI_add i 1) (by omega) (by omega) dL_law_284 ?_
        refine n_call2i (As := [.int (xs (i + 1))]) (rest := []) (wc := w1 a cI cJ (nI T) (nI Ln) op fa fb fc inp out rg lo so st ps mt al dp pl pe pm) (wr := w2 a2 cI (nI T) (nI Ln) op fa fb fc inp out2 rg2 lo2 so2 st2) SF (mX1_state l dC dI a cI cJ _ T Ln op fa fb fc inp out rg lo so st ps mt al dp pl pe pm (xs (i + 1)) hT) (cwV 1 hts (lw_V q166 q167 q168 q16 q169) rfl rfl rfl (by decide +kernel) ⟨Nat.le_of_ble_eq_true rfl, Nat.le_of_ble_eq_true rfl⟩) hK hP hD hS hA 0 0 rfl rfl rfl rfl hl.1 rfl (Nat.le_of_ble_eq_true rfl) dL_law_285 ⟨Nat.le_of_ble_eq_true rfl, Nat.le_of_ble_eq_true rfl⟩ (fun r1 _ H locs er1 hP hD hS => ?_)
        have hP : va_P (dC, dI) vwCl ((w2 a2 cI (nI T) (nI Ln) op fa fb fc inp out2 rg2 lo2 so2 st2) ++ (w1 a cI cJ (nI T) (nI Ln) op fa fb fc inp out rg lo so st ps mt al dp pl pe pm)) H := hP
        have hD : va_D (fun q : Nat => s.heap.size ≤ q) ((w2 a2 cI (nI T) (nI Ln) op fa fb fc inp out2 rg2 lo2 so2 st2) ++ (w1 a cI cJ (nI T) (nI Ln) op fa fb fc inp out rg lo so st ps mt al dp pl pe pm)) := hD
        refine lv_aload_n hx hb dL_law_288 rfl (lv_at hl 1 rfl) ?_
        refine lv_aload_n hx hb dL_law_289 rfl (lv_at hl 3 rfl) ?_
        refine lv_iload_n hx hb dL_law_290 rfl (lv_at hl 0 rfl) ?_
        refine lv_iconst (v := 1) hx hb dL_law_291 (by decide) ?_
        refine lv_iadd hx hb dL_law_292 ?_
        refine n_sld hx hb hX hbl hbA hS (i + 1) (nI_add i 1) (by omega) (by omega) dL_law_293 ?_
        refine n_call2i (As := [.int (xs (i + 1))]) (rest := [.int r1]) (wc := w2 a2 cI (nI T) (nI Ln) op fa fb fc inp out2 rg2 lo2 so2 st2) (wr := w1 a cI cJ (nI T) (nI Ln) op fa fb fc inp out rg lo so st ps mt al dp pl pe pm) SF (mX2_state l dC dI a2 cI cJ _ T Ln op fa fb fc inp out2 rg2 lo2 so2 st2 (xs (i + 1)) hT) (cwV 1 hts (lw_V q263 q264 q265 q17 q266) rfl rfl rfl (by decide +kernel) ⟨Nat.le_of_ble_eq_true rfl, Nat.le_of_ble_eq_true rfl⟩) hK hP hD hS hA 0 1 rfl rfl rfl rfl hl.1 rfl (Nat.le_of_ble_eq_true rfl) dL_law_294 ⟨Nat.le_of_ble_eq_true rfl, Nat.le_of_ble_eq_true rfl⟩ (fun r2 _ H locs er2 hP hD hS => ?_)
        have hP : va_P (dC, dI) vwCl ((w1 a cI cJ (nI T) (nI Ln) op fa fb fc inp out rg lo so st ps mt al dp pl pe pm) ++ (w2 a2 cI (nI T) (nI Ln) op fa fb fc inp out2 rg2 lo2 so2 st2)) H := hP
        have hD : va_D (fun q : Nat => s.heap.size ≤ q) ((w1 a cI cJ (nI T) (nI Ln) op fa fb fc inp out rg lo so st ps mt al dp pl pe pm) ++ (w2 a2 cI (nI T) (nI Ln) op fa fb fc inp out2 rg2 lo2 so2 st2)) := hD
        refine lv_icmp_eq (tgt := 325) hx hb dL_law_297 (by decide) (fun c2 => ?_) (fun c2 => ?_)
        · refine lv_iinc (v := nI (i + 5)) (lv' := [(3, .int (nI (i + 5))), (2, .ref (a2 0)), (1, .ref (a 0)), (0, .ref b)]) hx hb dL_law_325 hl (k := 0) rfl (nI_add i 5) (by decide) rfl (fun ls hl => ?_)
          refine lv_goto (tgt := 28) hx hb dL_law_328 (by decide) ?_
          exact ih (i + 5) (by omega) Ln _ _ _ _ _ _ _ _ _ _ _ _ _ _ _ _ _ _ _ _ _ _ H locs ls hLn hop hE hP hD hS hl
        · exact absurd (get_eq hT (fun t ht => (hE.2 t ht).2.2.2) er1 er2) c2
      · refine lv_tableIn (tgt := 302) (off := 260) hx hb dL_law_42 (by decide +kernel) (by decide +kernel) (by decide +kernel) (by decide) ?_
        refine lv_aload_n hx hb dL_law_302 rfl (lv_at hl 2 rfl) ?_
        refine lv_aload_n hx hb dL_law_303 rfl (lv_at hl 3 rfl) ?_
        refine lv_iload_n hx hb dL_law_304 rfl (lv_at hl 0 rfl) ?_
        refine lv_iconst (v := 1) hx hb dL_law_305 (by decide) ?_
        refine lv_iadd hx hb dL_law_306 ?_
        refine n_sld hx hb hX hbl hbA hS (i + 1) (nI_add i 1) (by omega) (by omega) dL_law_307 ?_
        refine n_call2i (As := [.int (xs (i + 1))]) (rest := []) (wc := w1 a cI cJ (nI T) (nI Ln) op fa fb fc inp out rg lo so st ps mt al dp pl pe pm) (wr := w2 a2 cI (nI T) (nI Ln) op fa fb fc inp out2 rg2 lo2 so2 st2) SF (mX1_output l dC dI a cI cJ _ T Ln op fa fb fc inp out rg lo so st ps mt al dp pl pe pm (xs (i + 1))) (cwV 1 hts (lw_V q170 q171 q172 q16 q173) rfl rfl rfl (by decide +kernel) ⟨Nat.le_of_ble_eq_true rfl, Nat.le_of_ble_eq_true rfl⟩) hK hP hD hS hA 0 0 rfl rfl rfl rfl hl.1 rfl (Nat.le_of_ble_eq_true rfl) dL_law_308 ⟨Nat.le_of_ble_eq_true rfl, Nat.le_of_ble_eq_true rfl⟩ (fun r1 _ H locs er1 hP hD hS => ?_)
        have hP : va_P (dC, dI) vwCl ((w2 a2 cI (nI T) (nI Ln) op fa fb fc inp out2 rg2 lo2 so2 st2) ++ (w1 a cI cJ (nI T) (nI Ln) op fa fb fc inp out rg lo so st ps mt al dp pl pe pm)) H := hP
        have hD : va_D (fun q : Nat => s.heap.size ≤ q) ((w2 a2 cI (nI T) (nI Ln) op fa fb fc inp out2 rg2 lo2 so2 st2) ++ (w1 a cI cJ (nI T) (nI Ln) op fa fb fc inp out rg lo so st ps mt al dp pl pe pm)) := hD
        refine lv_aload_n hx hb dL_law_311 rfl (lv_at hl 1 rfl) ?_
        refine lv_aload_n hx hb dL_law_312 rfl (lv_at hl 3 rfl) ?_
        refine lv_iload_n hx hb dL_law_313 rfl (lv_at hl 0 rfl) ?_
        refine lv_iconst (v := 1) hx hb dL_law_314 (by decide) ?_
        refine lv_iadd hx hb dL_law_315 ?_
        refine n_sld hx hb hX hbl hbA hS (i + 1) (nI_add i 1) (by omega) (by omega) dL_law_316 ?_
        refine n_call2i (As := [.int (xs (i + 1))]) (rest := [.int r1]) (wc := w2 a2 cI (nI T) (nI Ln) op fa fb fc inp out2 rg2 lo2 so2 st2) (wr := w1 a cI cJ (nI T) (nI Ln) op fa fb fc inp out rg lo so st ps mt al dp pl pe pm) SF (mX2_output l dC dI a2 cI cJ _ T Ln op fa fb fc inp out2 rg2 lo2 so2 st2 (xs (i + 1))) (cwV 1 hts (lw_V q267 q268 q269 q17 q270) rfl rfl rfl (by decide +kernel) ⟨Nat.le_of_ble_eq_true rfl, Nat.le_of_ble_eq_true rfl⟩) hK hP hD hS hA 0 1 rfl rfl rfl rfl hl.1 rfl (Nat.le_of_ble_eq_true rfl) dL_law_317 ⟨Nat.le_of_ble_eq_true rfl, Nat.le_of_ble_eq_true rfl⟩ (fun r2 _ H locs er2 hP hD hS => ?_)
        have hP : va_P (dC, dI) vwCl ((w1 a cI cJ (nI T) (nI Ln) op fa fb fc inp out rg lo so st ps mt al dp pl pe pm) ++ (w2 a2 cI (nI T) (nI Ln) op fa fb fc inp out2 rg2 lo2 so2 st2)) H := hP
        have hD : va_D (fun q : Nat => s.heap.size ≤ q) ((w1 a cI cJ (nI T) (nI Ln) op fa fb fc inp out rg lo so st ps mt al dp pl pe pm) ++ (w2 a2 cI (nI T) (nI Ln) op fa fb fc inp out2 rg2 lo2 so2 st2)) := hD
        refine lv_icmp_eq (tgt := 325) hx hb dL_law_320 (by decide) (fun c2 => ?_) (fun c2 => ?_)
        · refine lv_iinc (v := nI (i + 5)) (lv' := [(3, .int (nI (i + 5))), (2, .ref (a2 0)), (1, .ref (a 0)), (0, .ref b)]) hx hb dL_law_325 hl (k := 0) rfl (nI_add i 5) (by decide) rfl (fun ls hl => ?_)
          refine lv_goto (tgt := 28) hx hb dL_law_328 (by decide) ?_
          exact ih (i + 5) (by omega) Ln _ _ _ _ _ _ _ _ _ _ _ _ _ _ _ _ _ _ _ _ _ _ H locs ls hLn hop hE hP hD hS hl
        · exact absurd (er1.trans ((hE.1 _ (m16_lt _)).trans er2.symm)) c2
      · refine lv_tableOut (tgt := 325) hx hb dL_law_42 (Or.inr (by rw [nI_toInt (by omega)]; omega)) (by decide) ?_
        refine lv_iinc (v := nI (i + 5)) (lv' := [(3, .int (nI (i + 5))), (2, .ref (a2 0)), (1, .ref (a 0)), (0, .ref b)]) hx hb dL_law_325 hl (k := 0) rfl (nI_add i 5) (by decide) rfl (fun ls hl => ?_)
        refine lv_goto (tgt := 28) hx hb dL_law_328 (by decide) ?_
        exact ih (i + 5) (by omega) Ln _ _ _ _ _ _ _ _ _ _ _ _ _ _ _ _ _ _ _ _ _ _ H locs ls hLn hop hE hP hD hS hl
end
section
set_option maxHeartbeats 4000000 in
set_option maxRecDepth 100000 in
/-- THE LAW, from its entry -/
theorem whole_start {p : Program} {e : Env} {s : State} {m : MethodId} {below : List Frame} {meth : Method} {c : Code} (l : Launch) {b L : Nat} {xs : Nat → Int32} (hL : L ≤ 321) (C0 : lw_At p s m meth c b L xs) : W p l e room_1 s m #[Value.ref b] below meth c s.heap [] 0 0 (lw_Z below #[Value.ref b] s) (entryFrame m ([Value.ref b] : List Value).toArray 4) := by
  obtain ⟨hx, hb, hr, hml, hown, hts0, hX, hbl, hlocks, hgv⟩ := id C0
  have hts : ∀ w ∈ lw_all, w.before #[Value.ref b] s = true := fun w h => hts0 w (lw_all_tbl h)
  have SF : CallFix p m c code 4 s #[Value.ref b] lw_all R_law := ⟨hx, hb, hml, hown, hts⟩
  have hA : ∀ q : Nat, s.heap.size ≤ q → (fun q : Nat => s.heap.size ≤ q) q := fun _ h => h
  have hbA : ¬ (fun q : Nat => s.heap.size ≤ q) b := Nat.not_le.mpr hbl
  obtain ⟨c0, iS0, hKn0⟩ := u_known (C := RX1) (T := TX1) (N := 19) (n := 19) hts0 (fun w h => lw_all_tbl (in_X1 w h)) (hts0 _ (lw_all_tbl q19))
  obtain ⟨c1, iS1, hKn1⟩ := u_known (C := RX2) (T := TX2) (N := 12) (n := 12) hts0 (fun w h => lw_all_tbl (in_X2 w h)) (hts0 _ (lw_all_tbl q178))
  obtain ⟨dC, dI, hKc⟩ : ∃ (dC : Nat → ClassId) (dI : Nat → Nat → Nat), ∀ (k : Nat) (q : vw_C), vwCl[k]? = some q → u_Kn s q.1 q.2.1 q.2.2 (dC k) (dI k) := by
    refine ⟨fun k => if k = 0 then c0 else c1, fun k => if k = 0 then iS0 else iS1, ?_⟩
    intro k q hq
    match k, hq with
    | 0, hq => cases hq; exact hKn0
    | 1, hq => cases hq; exact hKn1
    | k + 2, hq => simp [vwCl] at hq
  have hS : va_S (fun q : Nat => s.heap.size ≤ q) s.heap s.heap [] := va_S.rf
  have hK : va_K (dC, dI) vwCl [] s := ⟨hKc, fun k q h => by simp at h⟩
  have hP : va_P (dC, dI) vwCl [] s.heap := fun k q h => by simp at h
  have hD : va_D (fun q : Nat => s.heap.size ≤ q) [] := ⟨fun i j p q h => by simp at h, fun k q h => by simp at h⟩
  have hl := lv_entry ([.ref b]) (n := 4) (Nat.le_of_ble_eq_true rfl)
  rw [lg_entry_eq]
  generalize (lg_sl ([.ref b]) ++ List.replicate (4 - (lg_sl ([.ref b])).length) Slot.unset).toArray = ls at hl ⊢
  have hl : lv_has ls 4 [(0, .ref b)] := hl
  refine va_new (ci := 0) (fs := [.int 0, .int 0, .null, .null, .null, .null, .null, .null, .null, .null, .null, .null, .null, .null, .int 0, .int 0, .null, .null, .null]) (C := RX1) (T := TX1) (N := 19) hx hb hts in_X1 tyX1 tyX1_ok hown (hts _ q18) (hts _ q19) (hts _ q16) hK hP hD hS hA rfl (fun j hj => match j, hj with | 0, _ => rfl | 1, _ => rfl | 2, _ => rfl | 3, _ => rfl | 4, _ => rfl | 5, _ => rfl | 6, _ => rfl | 7, _ => rfl | 8, _ => rfl | 9, _ => rfl | 10, _ => rfl | 11, _ => rfl | 12, _ => rfl | 13, _ => rfl | 14, _ => rfl | 15, _ => rfl | 16, _ => rfl | 17, _ => rfl | 18, _ => rfl | (q + 19), h => absurd h (by omega)) (Nat.le_of_ble_eq_true rfl) (Nat.le_of_ble_eq_true rfl) dL_law_0 (fun h0 H hP hD hS => ?_)
  have hP : va_P (dC, dI) vwCl [(h0, .inr (0, [.int 0, .int 0, .null, .null, .null, .null, .null, .null, .null, .null, .null, .null, .null, .null, .int 0, .int 0, .null, .null, .null]))] H := hP
  have hD : va_D (fun q : Nat => s.heap.size ≤ q) [(h0, .inr (0, [.int 0, .int 0, .null, .null, .null, .null, .null, .null, .null, .null, .null, .null, .null, .null, .int 0, .int 0, .null, .null, .null]))] := hD
  refine lv_dup hx hb dL_law_3 rfl ?_
  refine lv_aload_n hx hb dL_law_4 rfl (lv_at hl 0 rfl) ?_
  refine lv_iconst (v := 0) hx hb dL_law_5 (by decide) ?_
  refine n_callx (As := [.ref b, .int 0]) (rest := [.ref h0, .ref h0]) SF (mX0_cell l b L xs (by omega)) (va_cwS 2 hts (lw_S q174 q175 q15 q176) rfl rfl rfl (by decide +kernel) ⟨Nat.le_of_ble_eq_true rfl, Nat.le_of_ble_eq_true rfl⟩) hX hbl hbA hP hS rfl hl.1 rfl (Nat.le_of_ble_eq_true rfl) dL_law_6 ⟨Nat.le_of_ble_eq_true rfl, Nat.le_of_ble_eq_true rfl⟩ (fun r1 H locs er1 hP hS => ?_)
  refine n_call2n (As := [.int r1]) (rest := [.ref h0]) (wc := [(h0, .inr (0, [.int 0, .int 0, .null, .null, .null, .null, .null, .null, .null, .null, .null, .null, .null, .null, .int 0, .int 0, .null, .null, .null]))]) (wr := []) SF (mX1_init l dC dI h0 _ r1) (cwI 1 hts (lw_meth q22) rfl rfl rfl (hts _ q16) (hts _ q20) (hts _ q21) rfl (by decide +kernel) ⟨Nat.le_of_ble_eq_true rfl, Nat.le_of_ble_eq_true rfl⟩) hK hP hD hS hA rfl hl.1 rfl (Nat.le_of_ble_eq_true rfl) dL_law_9 ⟨Nat.le_of_ble_eq_true rfl, Nat.le_of_ble_eq_true rfl⟩ (fun u H9 locs9 hu hK9 hP9 hD9 hS9 => ?_)
  obtain ⟨a, cI, cJ⟩ := u
  have hu : a 0 = h0 := hu
  subst hu
  obtain ⟨T, hT1, hT, eT⟩ := th0_n r1
  have hK : va_K (dC, dI) vwCl (tyL cI cJ) s := hK9
  have hS := hS9
  have hP : va_P (dC, dI) vwCl (w1 a cI cJ (th0 r1) 0 (fun _ => 0) (fun _ => 0) (fun _ => 0) (fun _ => 0) (fun _ => 0) (fun _ => 0) (fun _ => 0) (fun _ => 0) (fun _ => 0) (fun _ => 0) (fun _ => 0) (fun _ => 0) 0 0 (fun _ => 0) (fun _ => 0) (fun _ => 0)) H9 := hP9
  have hD : va_D (fun q : Nat => s.heap.size ≤ q) (w1 a cI cJ (th0 r1) 0 (fun _ => 0) (fun _ => 0) (fun _ => 0) (fun _ => 0) (fun _ => 0) (fun _ => 0) (fun _ => 0) (fun _ => 0) (fun _ => 0) (fun _ => 0) (fun _ => 0) (fun _ => 0) 0 0 (fun _ => 0) (fun _ => 0) (fun _ => 0)) := hD9
  rw [eT] at hP hD
  refine lv_astore_n (lv' := [(1, .ref (a 0)), (0, .ref b)]) hx hb dL_law_12 rfl hl (by decide) rfl (fun ls hl => ?_)
  refine va_new (ci := 1) (fs := [.int 0, .int 0, .null, .null, .null, .null, .null, .null, .null, .null, .null, .null]) (C := RX2) (T := TX2) (N := 12) hx hb hts in_X2 tyX2 tyX2_ok hown (hts _ q177) (hts _ q178) (hts _ q17) hK hP hD hS hA rfl (fun j hj => match j, hj with | 0, _ => rfl | 1, _ => rfl | 2, _ => rfl | 3, _ => rfl | 4, _ => rfl | 5, _ => rfl | 6, _ => rfl | 7, _ => rfl | 8, _ => rfl | 9, _ => rfl | 10, _ => rfl | 11, _ => rfl | (q + 12), h => absurd h (by omega)) (Nat.le_of_ble_eq_true rfl) (Nat.le_of_ble_eq_true rfl) dL_law_13 (fun h2 H hP hD hS => ?_)
  have hP : va_P (dC, dI) vwCl ([(h2, .inr (1, [.int 0, .int 0, .null, .null, .null, .null, .null, .null, .null, .null, .null, .null]))] ++ (w1 a cI cJ (nI T) 0 (fun _ => 0) (fun _ => 0) (fun _ => 0) (fun _ => 0) (fun _ => 0) (fun _ => 0) (fun _ => 0) (fun _ => 0) (fun _ => 0) (fun _ => 0) (fun _ => 0) (fun _ => 0) 0 0 (fun _ => 0) (fun _ => 0) (fun _ => 0))) H := hP.sub [16, 0, 1, 2, 3, 4, 5, 6, 7, 8, 9, 10, 11, 12, 13, 14, 15] rfl
  have hD : va_D (fun q : Nat => s.heap.size ≤ q) ([(h2, .inr (1, [.int 0, .int 0, .null, .null, .null, .null, .null, .null, .null, .null, .null, .null]))] ++ (w1 a cI cJ (nI T) 0 (fun _ => 0) (fun _ => 0) (fun _ => 0) (fun _ => 0) (fun _ => 0) (fun _ => 0) (fun _ => 0) (fun _ => 0) (fun _ => 0) (fun _ => 0) (fun _ => 0) (fun _ => 0) 0 0 (fun _ => 0) (fun _ => 0) (fun _ => 0))) := hD.sub [16, 0, 1, 2, 3, 4, 5, 6, 7, 8, 9, 10, 11, 12, 13, 14, 15] (by decide) rfl
  refine lv_dup hx hb dL_law_16 rfl ?_
  refine lv_aload_n hx hb dL_law_17 rfl (lv_at hl 1 rfl) ?_
  refine lv_iconst (v := 0) hx hb dL_law_18 (by decide) ?_
  refine n_callx (As := [.ref b, .int 0]) (rest := [.ref h2, .ref h2]) SF (mX0_cell l b L xs (by omega)) (va_cwS 2 hts (lw_S q174 q175 q15 q176) rfl rfl rfl (by decide +kernel) ⟨Nat.le_of_ble_eq_true rfl, Nat.le_of_ble_eq_true rfl⟩) hX hbl hbA hP hS rfl hl.1 rfl (Nat.le_of_ble_eq_true rfl) dL_law_19 ⟨Nat.le_of_ble_eq_true rfl, Nat.le_of_ble_eq_true rfl⟩ (fun r2 H locs er2 hP hS => ?_)
  refine n_call2n (As := [.int r2]) (rest := [.ref h2]) (wc := [(h2, .inr (1, [.int 0, .int 0, .null, .null, .null, .null, .null, .null, .null, .null, .null, .null]))]) (wr := w1 a cI cJ (nI T) 0 (fun _ => 0) (fun _ => 0) (fun _ => 0) (fun _ => 0) (fun _ => 0) (fun _ => 0) (fun _ => 0) (fun _ => 0) (fun _ => 0) (fun _ => 0) (fun _ => 0) (fun _ => 0) 0 0 (fun _ => 0) (fun _ => 0) (fun _ => 0)) SF (mX2_init l dC dI cI cJ h2 _ r2) (cwI 1 hts (lw_meth q181) rfl rfl rfl (hts _ q17) (hts _ q179) (hts _ q180) rfl (by decide +kernel) ⟨Nat.le_of_ble_eq_true rfl, Nat.le_of_ble_eq_true rfl⟩) hK hP hD hS hA rfl hl.1 rfl (Nat.le_of_ble_eq_true rfl) dL_law_22 ⟨Nat.le_of_ble_eq_true rfl, Nat.le_of_ble_eq_true rfl⟩ (fun a2 H8 locs8 hu hK8 hP8 hD8 hS8 => ?_)
  have hu : a2 0 = h2 := hu
  subst hu
  have e21 : r2 = r1 := er2.trans er1.symm
  have hS := hS8
  have hP : va_P (dC, dI) vwCl ((w1 a cI cJ (nI T) 0 (fun _ => 0) (fun _ => 0) (fun _ => 0) (fun _ => 0) (fun _ => 0) (fun _ => 0) (fun _ => 0) (fun _ => 0) (fun _ => 0) (fun _ => 0) (fun _ => 0) (fun _ => 0) 0 0 (fun _ => 0) (fun _ => 0) (fun _ => 0)) ++ (w2 a2 cI (th0 r2) 0 (fun _ => 0) (fun _ => 0) (fun _ => 0) (fun _ => 0) (fun _ => 0) (fun _ => 0) (fun _ => 0) (fun _ => 0) (fun _ => 0) (fun _ => 0))) H8 := hP8
  have hD : va_D (fun q : Nat => s.heap.size ≤ q) ((w1 a cI cJ (nI T) 0 (fun _ => 0) (fun _ => 0) (fun _ => 0) (fun _ => 0) (fun _ => 0) (fun _ => 0) (fun _ => 0) (fun _ => 0) (fun _ => 0) (fun _ => 0) (fun _ => 0) (fun _ => 0) 0 0 (fun _ => 0) (fun _ => 0) (fun _ => 0)) ++ (w2 a2 cI (th0 r2) 0 (fun _ => 0) (fun _ => 0) (fun _ => 0) (fun _ => 0) (fun _ => 0) (fun _ => 0) (fun _ => 0) (fun _ => 0) (fun _ => 0) (fun _ => 0))) := hD8
  rw [e21, eT] at hP hD
  refine lv_astore_n (lv' := [(2, .ref (a2 0)), (1, .ref (a 0)), (0, .ref b)]) hx hb dL_law_25 rfl hl (by decide) rfl (fun ls hl => ?_)
  refine lv_iconst (v := 1) hx hb dL_law_26 (by decide) ?_
  refine lv_istore_n (lv' := [(3, .int 1), (2, .ref (a2 0)), (1, .ref (a 0)), (0, .ref b)]) hx hb dL_law_27 rfl hl (by decide) rfl (fun ls hl => ?_)
  exact law_loop l hL C0 hK a a2 T hT 64 1 rfl 0 _ _ _ _ _ _ _ _ _ _ _ _ _ _ _ _ _ _ _ _ _ _ H8 locs8 ls (Nat.zero_le _) (fun _ => by decide) ⟨fun _ _ => rfl, fun _ _ => ⟨fun _ _ => rfl, rfl, rfl, rfl⟩⟩ hP hD hS hl
end
section
set_option maxHeartbeats 4000000 in
theorem lw_walk (l : Launch) (b : Addr) (xs : List Int32) : MetFree l x (headSpec (Jvm.Cond.code x code maxLocals ret :: tables_1) room_1) (lw_P b xs) (fun _ _ _ _ _ => True) lw_Q := by
  refine MetFree.of_bodyS (code := code) (maxLocals := maxLocals) (ret := ret) (by decide) ?_ ?_
  · intro args s m h hn
    obtain ⟨meth, c, h1, h2, h3, h4, h5, h6, -, -⟩ := Cond.code_spec hn (atoms_spec (ws := Jvm.Cond.code x code maxLocals ret :: tables_1) h _ List.mem_cons_self)
    exact ⟨meth, c, h1, h2, h3, h4, h5, h6⟩
  · intro p e s m args below meth c s₁ B hml0 hP _
    obtain ⟨rfl, hx, hbd, hgv⟩ := hP
    obtain ⟨scr, harrAt, hlist, hof, hsmall⟩ := hx
    obtain ⟨hcb, hkn, -, -⟩ := State.arrayAt?_spec harrAt
    have hown : s.vm.findClass R_law = some m.cls := findClass_of_methodNamed B.named
    have hts0 : ∀ c ∈ (Jvm.Cond.code x code maxLocals ret :: tables_1), c.before #[Value.ref b] s = true := atoms_spec (ws := Jvm.Cond.code x code maxLocals ret :: tables_1) B.pre
    have hts : ∀ w ∈ lw_tbl, w.before #[Value.ref b] s = true := k2_hts_sels lw_privs (fun w hw => hts0 w (List.mem_cons_of_mem _ hw)) lw_privs_ok
    have hml : c.maxLocals = 4 := B.maxLocals_eq (hts0 _ List.mem_cons_self)
    have X₀ : Stand p l e room_1 s m #[Value.ref b] below meth c s₁ [] 0 0 := Stand.of_body B
    have hh0 : s₁.heap = s.heap := by rw [B.state]; rfl
    have hsz : scr.slots.size = xs.length := by rw [← Array.length_toList, hlist, List.length_map]
    have hval : ∀ j : Nat, j < xs.length → scr.slots[j]? = some (.int (xs.getD j 0)) := fun j hj => by
      rw [← Array.getElem?_toList, hlist]
      simp [hj]
    have hbl : b < s.heap.size := (Array.getElem?_eq_some_iff.mp hcb).1
    have hX : va_X b xs.length (fun j => xs.getD j 0) s s.heap := ⟨scr, hcb, hof, hkn, hsz, hval⟩
    have K : W p l e room_1 s m #[Value.ref b] below meth c s₁.heap [] 0 0 (lw_Z below #[Value.ref b] s) (entryFrame m ([Value.ref b] : List Value).toArray 4) := by
      rw [hh0]
      exact whole_start l hbd ⟨B.exec, B.bytes, B.returns, hml, hown, hts, hX, hbl, B.notSynchronized, hgv⟩
    obtain ⟨t, a1, o, b1, b2, b3⟩ := K s₁ rfl X₀
    exact ⟨t, o, a1, b1, b2, b3⟩
theorem lw_pre_spec {args : Array Value} {s : State} (h : (Jvm.Cond.and given_1 narrow_1).before args s = true) (hr : rest_1_c.before args s = true) : ∃ (b : Addr) (xs : List Int32), lw_P b xs args s := by
  have hs := flat_of_before _ h
  have hq := flat_of_before _ hr
  have hc : (Cond.count 1).before args s = true := hs _ (by decide +kernel)
  have harr : (Cond.arrayOf (.arg 0) .int).before args s = true := hs _ (by decide +kernel)
  have hle : (Cond.le (.length (.arg 0)) (.int 321)).before args s = true := hs _ (by decide +kernel)
  have hlen : (Cond.isInt (.length (.arg 0))).before args s = true := hq _ (by decide +kernel)
  have hall : (Cond.all (.arg 0) (.isInt (.elem (.arg 0) (.index 0)))).before args s = true := hq _ (by decide +kernel)
  obtain ⟨b, xs, hb, hx⟩ := State.ints_of_pre rfl harr hlen hall
  have hsm : xs.length < 2 ^ 31 := hx.choose_spec.2.2.2
  have hev : (Term.length (.arg 0)).eval args s none [] s = some (.int xs.length.toInt32) := hx.length_eval hb
  have hv := Cond.le_ints hev (show (Term.int 321).eval args s none [] s = some (.int 321) from rfl)
  have hd : xs.length.toInt32 ≤ 321 := by
    simpa [Cond.before, Cond.holds, hv] using hle
  have hN : xs.length ≤ 321 := (Int32.ofNat_le_ofNat hsm (by decide)).mp (show Int32.ofNat xs.length ≤ Int32.ofNat 321 from hd)
  exact ⟨b, xs, Cond.one_arg hc (show args[0]? = some (.ref b) from hb), hx, hN, h⟩
theorem lw_comes (l : Launch) : Comes l x (Jvm.Cond.code x code maxLocals ret :: tables_1) room_1 (fun tb e args s => Calls_1 tb e args s ∧ rest_1 tb e args s ∧ Pre_1 tb e args s)
    (fun _ _ args s o t => lw_Q args s o t) := by
  intro p e ha hc hk s m args below hf hfit hheap happ hpre
  obtain ⟨b, xs, hP⟩ := lw_pre_spec hpre.2.2 hpre.2.1
  obtain ⟨k, o, h1, h2, h3, hQ⟩ := lw_walk l b xs p e ha hc hk s m args below hf ((Spec.applies_iff_loose hf).mp happ).1 hP trivial
  exact ⟨k, o, h1, h2, h3, hQ⟩
theorem lw_frame {s t : State} {o : Outcome} {args : Array Value} (h : Framed s o t [] 600000 7290000) :
    Framed s o t (fieldLocs frame_1_writes args s ++ arrayLocs frame_1_arrays args s ++ staticLocs frame_1_statics s) 600000 7290000 := h
theorem lw_limb (L : Cond) (hL : ∀ (args : Array Value) (s t : State), L.after args s (.returned (some (.int 1))) t = true) :
    ArmFor flags0 classFile x code maxLocals ret World_1 tables_1 room_1 Calls_1 rest_1 Pre_1
      (fun tb e a s o t => postC L tb e a s o t ∧ Framed s o t (fieldLocs frame_1_writes a s ++ arrayLocs frame_1_arrays a s ++ staticLocs frame_1_statics s) 600000 7290000) := by
  intro l _ _ _ p e ha hc hk s m args below hf hfit hheap happ hpre
  obtain ⟨k, o, h1, h2, h3, rfl, hF⟩ := lw_comes l p e ha hc hk s m args below hf hfit hheap happ hpre
  exact ⟨k, _, h1, h2, h3, hL args s _, lw_frame hF⟩
theorem i_vc : Claimed_1_1 ∧ Claimed_1_2 := ⟨lw_limb limb_1_1 (fun args s t => by simp [limb_1_1, Cond.after, Cond.holds, Cond.value]), lw_limb limb_1_2 (fun args s t => Cond.after_iff.mpr (by
  first | (rw [show limb_1_2 = Cond.eq .result (.int 1) from rfl, Cond.eq_ints (x := 1) (y := 1) rfl rfl]; simp; done) | (simp [limb_1_2, Cond.value, Term.eval]; done)))⟩
end
