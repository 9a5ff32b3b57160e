section
-- ===== PART A: goes FIRST, ahead of the names: the tables' words, and 'selects' of the private methods out of them =====
/-- a private method of a class that the tables say can be made, by its rows of tables_1 -/
def lw_okq (q : MethodName × Nat) : Prop := (q.1.cls ≠ "java/lang/invoke/MethodHandle" ∧ q.1.cls ≠ "java/lang/invoke/VarHandle") ∧ Cond.instantiable q.1.cls q.2 ∈ tables_1 ∧ Cond.privateMethod q.1 ∈ tables_1 ∧ Cond.instanceMethod q.1 ∈ tables_1
set_option maxRecDepth 100000
theorem lw_p0 : lw_okq (⟨"ParityArchive", "checkOf", "(I)I"⟩, 12) := ⟨⟨by decide +kernel, by decide +kernel⟩, List.mem_of_getElem? (i := 4) rfl, List.mem_of_getElem? (i := 12) rfl, List.mem_of_getElem? (i := 13) rfl⟩
theorem lw_p1 : lw_okq (⟨"ParityArchive", "stateOf", "(I)I"⟩, 12) := ⟨⟨by decide +kernel, by decide +kernel⟩, List.mem_of_getElem? (i := 4) rfl, List.mem_of_getElem? (i := 66) rfl, List.mem_of_getElem? (i := 67) rfl⟩
theorem lw_p2 : lw_okq (⟨"ParityArchive", "factor", "(II)I"⟩, 12) := ⟨⟨by decide +kernel, by decide +kernel⟩, List.mem_of_getElem? (i := 4) rfl, List.mem_of_getElem? (i := 70) rfl, List.mem_of_getElem? (i := 71) rfl⟩
theorem lw_p3 : lw_okq (⟨"ParityArchive", "inverse", "(I)I"⟩, 12) := ⟨⟨by decide +kernel, by decide +kernel⟩, List.mem_of_getElem? (i := 4) rfl, List.mem_of_getElem? (i := 74) rfl, List.mem_of_getElem? (i := 75) rfl⟩
theorem lw_p4 : lw_okq (⟨"ParityArchive", "times", "(II)I"⟩, 12) := ⟨⟨by decide +kernel, by decide +kernel⟩, List.mem_of_getElem? (i := 4) rfl, List.mem_of_getElem? (i := 78) rfl, List.mem_of_getElem? (i := 79) rfl⟩
theorem lw_p5 : lw_okq (⟨"ParityArchive", "badBlocks", "()I"⟩, 12) := ⟨⟨by decide +kernel, by decide +kernel⟩, List.mem_of_getElem? (i := 4) rfl, List.mem_of_getElem? (i := 86) rfl, List.mem_of_getElem? (i := 87) rfl⟩
theorem lw_p6 : lw_okq (⟨"ParityArchive", "makeRecovery", "(I)V"⟩, 12) := ⟨⟨by decide +kernel, by decide +kernel⟩, List.mem_of_getElem? (i := 4) rfl, List.mem_of_getElem? (i := 90) rfl, List.mem_of_getElem? (i := 91) rfl⟩
theorem lw_p7 : lw_okq (⟨"ParityArchive", "listMissing", "()V"⟩, 12) := ⟨⟨by decide +kernel, by decide +kernel⟩, List.mem_of_getElem? (i := 4) rfl, List.mem_of_getElem? (i := 110) rfl, List.mem_of_getElem? (i := 111) rfl⟩
theorem lw_p8 : lw_okq (⟨"ParityArchive", "goodRecoveries", "()I"⟩, 12) := ⟨⟨by decide +kernel, by decide +kernel⟩, List.mem_of_getElem? (i := 4) rfl, List.mem_of_getElem? (i := 114) rfl, List.mem_of_getElem? (i := 115) rfl⟩
theorem lw_p9 : lw_okq (⟨"ParityArchive", "setEquations", "()V"⟩, 12) := ⟨⟨by decide +kernel, by decide +kernel⟩, List.mem_of_getElem? (i := 4) rfl, List.mem_of_getElem? (i := 118) rfl, List.mem_of_getElem? (i := 119) rfl⟩
theorem lw_p10 : lw_okq (⟨"ParityArchive", "restOf", "(II)I"⟩, 12) := ⟨⟨by decide +kernel, by decide +kernel⟩, List.mem_of_getElem? (i := 4) rfl, List.mem_of_getElem? (i := 122) rfl, List.mem_of_getElem? (i := 123) rfl⟩
theorem lw_p11 : lw_okq (⟨"ParityArchive", "isMissing", "(I)Z"⟩, 12) := ⟨⟨by decide +kernel, by decide +kernel⟩, List.mem_of_getElem? (i := 4) rfl, List.mem_of_getElem? (i := 126) rfl, List.mem_of_getElem? (i := 127) rfl⟩
theorem lw_p12 : lw_okq (⟨"ParityArchive", "eliminate", "(I)V"⟩, 12) := ⟨⟨by decide +kernel, by decide +kernel⟩, List.mem_of_getElem? (i := 4) rfl, List.mem_of_getElem? (i := 130) rfl, List.mem_of_getElem? (i := 131) rfl⟩
theorem lw_p13 : lw_okq (⟨"ParityArchive", "swapEquations", "(II)V"⟩, 12) := ⟨⟨by decide +kernel, by decide +kernel⟩, List.mem_of_getElem? (i := 4) rfl, List.mem_of_getElem? (i := 134) rfl, List.mem_of_getElem? (i := 135) rfl⟩
theorem lw_p14 : lw_okq (⟨"ParityArchive", "putBack", "(I)V"⟩, 12) := ⟨⟨by decide +kernel, by decide +kernel⟩, List.mem_of_getElem? (i := 4) rfl, List.mem_of_getElem? (i := 138) rfl, List.mem_of_getElem? (i := 139) rfl⟩
theorem lw_p15 : lw_okq (⟨"ParityArchiveModel", "refusal", "(III)I"⟩, 4) := ⟨⟨by decide +kernel, by decide +kernel⟩, List.mem_of_getElem? (i := 162) rfl, List.mem_of_getElem? (i := 185) rfl, List.mem_of_getElem? (i := 186) rfl⟩
def lw_privs_1 : List (MethodName × Nat) := [(⟨"ParityArchive", "checkOf", "(I)I"⟩, 12), (⟨"ParityArchive", "stateOf", "(I)I"⟩, 12), (⟨"ParityArchive", "factor", "(II)I"⟩, 12), (⟨"ParityArchive", "inverse", "(I)I"⟩, 12), (⟨"ParityArchive", "times", "(II)I"⟩, 12), (⟨"ParityArchive", "badBlocks", "()I"⟩, 12), (⟨"ParityArchive", "makeRecovery", "(I)V"⟩, 12), (⟨"ParityArchive", "listMissing", "()V"⟩, 12), (⟨"ParityArchive", "goodRecoveries", "()I"⟩, 12), (⟨"ParityArchive", "setEquations", "()V"⟩, 12), (⟨"ParityArchive", "restOf", "(II)I"⟩, 12), (⟨"ParityArchive", "isMissing", "(I)Z"⟩, 12), (⟨"ParityArchive", "eliminate", "(I)V"⟩, 12), (⟨"ParityArchive", "swapEquations", "(II)V"⟩, 12), (⟨"ParityArchive", "putBack", "(I)V"⟩, 12), (⟨"ParityArchiveModel", "refusal", "(III)I"⟩, 4)]
theorem lw_r1 : ∀ q ∈ lw_privs_1, lw_okq q := List.forall_mem_cons.mpr ⟨lw_p0, List.forall_mem_cons.mpr ⟨lw_p1, List.forall_mem_cons.mpr ⟨lw_p2, List.forall_mem_cons.mpr ⟨lw_p3, List.forall_mem_cons.mpr ⟨lw_p4, List.forall_mem_cons.mpr ⟨lw_p5, List.forall_mem_cons.mpr ⟨lw_p6, List.forall_mem_cons.mpr ⟨lw_p7, List.forall_mem_cons.mpr ⟨lw_p8, List.forall_mem_cons.mpr ⟨lw_p9, List.forall_mem_cons.mpr ⟨lw_p10, List.forall_mem_cons.mpr ⟨lw_p11, List.forall_mem_cons.mpr ⟨lw_p12, List.forall_mem_cons.mpr ⟨lw_p13, List.forall_mem_cons.mpr ⟨lw_p14, List.forall_mem_cons.mpr ⟨lw_p15, fun _ h => absurd h List.not_mem_nil⟩⟩⟩⟩⟩⟩⟩⟩⟩⟩⟩⟩⟩⟩⟩⟩
theorem lw_p16 : lw_okq (⟨"ParityArchiveModel", "notGood", "()I"⟩, 4) := ⟨⟨by decide +kernel, by decide +kernel⟩, List.mem_of_getElem? (i := 162) rfl, List.mem_of_getElem? (i := 193) rfl, List.mem_of_getElem? (i := 194) rfl⟩
def lw_privs_2 : List (MethodName × Nat) := [(⟨"ParityArchiveModel", "notGood", "()I"⟩, 4)]
theorem lw_r2 : ∀ q ∈ lw_privs_2, lw_okq q := List.forall_mem_cons.mpr ⟨lw_p16, fun _ h => absurd h List.not_mem_nil⟩
def lw_privs : List (MethodName × Nat) := lw_privs_1 ++ (lw_privs_2)
def lw_tbl : List Cond := k2_sels lw_privs ++ tables_1
theorem lw_privs_ok : ∀ q ∈ lw_privs, lw_okq q := by
  show ∀ q ∈ lw_privs_1 ++ (lw_privs_2), lw_okq q
  exact List.forall_mem_append.mpr ⟨lw_r1, lw_r2⟩
-- ===== ONE list of words for every method: the tables' words that hold all through a run =====
def lw_all : List Cond := lw_tbl.filter goodWord
/-- a word of the tables by its place: claim/WORDS.tsv -/
theorem lw_w {w : Cond} (i : Nat) (h : lw_tbl[i]? = some w) (g : goodWord w = true) : w ∈ lw_all := List.mem_filter.mpr ⟨List.mem_of_getElem? h, g⟩
theorem lw_all_tbl {w : Cond} (h : w ∈ lw_all) : w ∈ lw_tbl := (List.mem_filter.mp h).1
theorem lw_self : GoodIn lw_all lw_all := fun w h => ⟨h, good_of_word (List.mem_filter.mp h).2⟩
/-- a class's field words, by their places -/
theorem lw_in (ws : List Cond) (ps : List Nat) (hp : ws = ps.filterMap (fun i => lw_tbl[i]?)) (hg : ws.all goodWord = true) : ∀ w ∈ ws, w ∈ lw_all := by
  intro w h
  have h1 := List.all_eq_true.mp hg w h
  rw [hp] at h
  obtain ⟨i, -, hi⟩ := List.mem_filterMap.mp h
  exact lw_w i hi h1
/-- the words of a contract for the method y with code b, L locals, answer r -/
abbrev ws_ (y : MethodName) (b : ByteArray) (L : Nat) (r : Option FieldType) : List Cond := Cond.code y b L r :: lw_all
theorem lw_meth {y : MethodName} {b : ByteArray} {L : Nat} {r : Option FieldType} (h : Cond.code y b L r ∈ lw_all) : GoodIn lw_all (ws_ y b L r) := by
  intro w hw
  rcases List.mem_cons.mp hw with e | e
  · rw [e]
    exact lw_self _ h
  · exact lw_self _ e
theorem lw_app {a c : List Cond} (ha : ∀ w ∈ a, w ∈ lw_all) (hc : GoodIn lw_all c) : GoodIn lw_all (a ++ c) := by
  intro w hw
  rcases List.mem_append.mp hw with e | e
  · exact lw_self w (ha w e)
  · exact hc w e
/-- what a call through an object asks: cwV n hts (lw_V ..) -/
theorem lw_V {own : String} {idx : Nat} {C : String} {y : MethodName} {b : ByteArray} {L : Nat} {r : Option FieldType} (h1 : Cond.methodLink own idx y ∈ lw_all) (h2 : Cond.instanceMethod y ∈ lw_all) (h3 : Cond.selects C y y ∈ lw_all) (h4 : Cond.initialized C ∈ lw_all) (h5 : Cond.code y b L r ∈ lw_all) : GoodIn lw_all (wsV own idx C y (ws_ y b L r)) := by
  refine lw_app ?_ (lw_meth h5)
  intro w hw
  simp only [List.mem_cons, List.not_mem_nil, or_false] at hw
  rcases hw with e | e | e | e
  · rw [e]; exact h1
  · rw [e]; exact h2
  · rw [e]; exact h3
  · rw [e]; exact h4
/-- what a static call asks: va_cwS n hts (lw_S ..) -/
theorem lw_S {own : String} {idx : Nat} {y : MethodName} {b : ByteArray} {L : Nat} {r : Option FieldType} (h1 : Cond.methodLink own idx y ∈ lw_all) (h2 : Cond.static y ∈ lw_all) (h3 : Cond.initialized y.cls ∈ lw_all) (h4 : Cond.code y b L r ∈ lw_all) : GoodIn lw_all (va_wsS own idx y (ws_ y b L r)) := by
  refine lw_app ?_ (lw_meth h4)
  intro w hw
  simp only [List.mem_cons, List.not_mem_nil, or_false] at hw
  rcases hw with e | e | e
  · rw [e]; exact h1
  · rw [e]; exact h2
  · rw [e]; exact h3
/-- the words of a contract for a method WITH HANDLERS (hh: its table) -/
abbrev wsW_ (y : MethodName) (b : ByteArray) (L : Nat) (r : Option FieldType) (hh : List (Nat × Nat × Nat × Nat)) : List Cond := Cond.codeWith y b L r hh :: lw_all
theorem lw_methW {y : MethodName} {b : ByteArray} {L : Nat} {r : Option FieldType} {hh : List (Nat × Nat × Nat × Nat)} (h : Cond.codeWith y b L r hh ∈ lw_all) : GoodIn lw_all (wsW_ y b L r hh) := by
  intro w hw
  rcases List.mem_cons.mp hw with e | e
  · rw [e]
    exact lw_self _ h
  · exact lw_self _ e
/-- any list of words by their places (lw_in), good -/
theorem lw_good {ws : List Cond} (h : ∀ w ∈ ws, w ∈ lw_all) : GoodIn lw_all ws := fun w hw => lw_self w (h w hw)
/-- what a call of a method with handlers asks: vx_cwVW n hts (lw_VW ..), vx_cwSW n hts (lw_SW ..) -/
theorem lw_VW {own : String} {idx : Nat} {C : String} {y : MethodName} {b : ByteArray} {L : Nat} {r : Option FieldType} {hh : List (Nat × Nat × Nat × Nat)} (h1 : Cond.methodLink own idx y ∈ lw_all) (h2 : Cond.instanceMethod y ∈ lw_all) (h3 : Cond.selects C y y ∈ lw_all) (h4 : Cond.initialized C ∈ lw_all) (h5 : Cond.codeWith y b L r hh ∈ lw_all) : GoodIn lw_all (wsV own idx C y (wsW_ y b L r hh)) := by
  refine lw_app ?_ (lw_methW h5)
  intro w hw
  simp only [List.mem_cons, List.not_mem_nil, or_false] at hw
  rcases hw with e | e | e | e
  · rw [e]; exact h1
  · rw [e]; exact h2
  · rw [e]; exact h3
  · rw [e]; exact h4
theorem lw_SW {own : String} {idx : Nat} {y : MethodName} {b : ByteArray} {L : Nat} {r : Option FieldType} {hh : List (Nat × Nat × Nat × Nat)} (h1 : Cond.methodLink own idx y ∈ lw_all) (h2 : Cond.static y ∈ lw_all) (h3 : Cond.initialized y.cls ∈ lw_all) (h4 : Cond.codeWith y b L r hh ∈ lw_all) : GoodIn lw_all (va_wsS own idx y (wsW_ y b L r hh)) := by
  refine lw_app ?_ (lw_methW h4)
  intro w hw
  simp only [List.mem_cons, List.not_mem_nil, or_false] at hw
  rcases hw with e | e | e
  · rw [e]; exact h1
  · rw [e]; exact h2
  · rw [e]; exact h3
/-- a word by its place in its run of the tables -/
theorem lw_at {r : List Cond} (hr : ∀ w ∈ r, w ∈ lw_tbl) {w : Cond} (i : Nat) (h : r[i]? = some w) : w ∈ lw_tbl := hr w (List.mem_of_getElem? h)
theorem lw_g {w : Cond} (h : w ∈ lw_tbl) (g : goodWord w = true) : w ∈ lw_all := List.mem_filter.mpr ⟨h, g⟩
theorem lw_ms : ∀ w ∈ k2_sels lw_privs, w ∈ lw_tbl := fun w h => show w ∈ k2_sels lw_privs ++ tables_1 from List.mem_append_left _ h
theorem lw_m0 : ∀ w ∈ tables_1, w ∈ lw_tbl := fun w h => show w ∈ k2_sels lw_privs ++ tables_1 from List.mem_append_right (k2_sels lw_privs) h
theorem qs0 : (Cond.selects "ParityArchive" ⟨"ParityArchive", "checkOf", "(I)I"⟩ ⟨"ParityArchive", "checkOf", "(I)I"⟩) ∈ lw_all := lw_g (lw_at lw_ms 0 rfl) rfl
theorem qs1 : (Cond.selects "ParityArchive" ⟨"ParityArchive", "stateOf", "(I)I"⟩ ⟨"ParityArchive", "stateOf", "(I)I"⟩) ∈ lw_all := lw_g (lw_at lw_ms 1 rfl) rfl
theorem qs2 : (Cond.selects "ParityArchive" ⟨"ParityArchive", "factor", "(II)I"⟩ ⟨"ParityArchive", "factor", "(II)I"⟩) ∈ lw_all := lw_g (lw_at lw_ms 2 rfl) rfl
theorem qs3 : (Cond.selects "ParityArchive" ⟨"ParityArchive", "inverse", "(I)I"⟩ ⟨"ParityArchive", "inverse", "(I)I"⟩) ∈ lw_all := lw_g (lw_at lw_ms 3 rfl) rfl
theorem qs4 : (Cond.selects "ParityArchive" ⟨"ParityArchive", "times", "(II)I"⟩ ⟨"ParityArchive", "times", "(II)I"⟩) ∈ lw_all := lw_g (lw_at lw_ms 4 rfl) rfl
theorem qs5 : (Cond.selects "ParityArchive" ⟨"ParityArchive", "badBlocks", "()I"⟩ ⟨"ParityArchive", "badBlocks", "()I"⟩) ∈ lw_all := lw_g (lw_at lw_ms 5 rfl) rfl
theorem qs6 : (Cond.selects "ParityArchive" ⟨"ParityArchive", "makeRecovery", "(I)V"⟩ ⟨"ParityArchive", "makeRecovery", "(I)V"⟩) ∈ lw_all := lw_g (lw_at lw_ms 6 rfl) rfl
theorem qs7 : (Cond.selects "ParityArchive" ⟨"ParityArchive", "listMissing", "()V"⟩ ⟨"ParityArchive", "listMissing", "()V"⟩) ∈ lw_all := lw_g (lw_at lw_ms 7 rfl) rfl
theorem qs8 : (Cond.selects "ParityArchive" ⟨"ParityArchive", "goodRecoveries", "()I"⟩ ⟨"ParityArchive", "goodRecoveries", "()I"⟩) ∈ lw_all := lw_g (lw_at lw_ms 8 rfl) rfl
theorem qs9 : (Cond.selects "ParityArchive" ⟨"ParityArchive", "setEquations", "()V"⟩ ⟨"ParityArchive", "setEquations", "()V"⟩) ∈ lw_all := lw_g (lw_at lw_ms 9 rfl) rfl
theorem qs10 : (Cond.selects "ParityArchive" ⟨"ParityArchive", "restOf", "(II)I"⟩ ⟨"ParityArchive", "restOf", "(II)I"⟩) ∈ lw_all := lw_g (lw_at lw_ms 10 rfl) rfl
theorem qs11 : (Cond.selects "ParityArchive" ⟨"ParityArchive", "isMissing", "(I)Z"⟩ ⟨"ParityArchive", "isMissing", "(I)Z"⟩) ∈ lw_all := lw_g (lw_at lw_ms 11 rfl) rfl
theorem qs12 : (Cond.selects "ParityArchive" ⟨"ParityArchive", "eliminate", "(I)V"⟩ ⟨"ParityArchive", "eliminate", "(I)V"⟩) ∈ lw_all := lw_g (lw_at lw_ms 12 rfl) rfl
theorem qs13 : (Cond.selects "ParityArchive" ⟨"ParityArchive", "swapEquations", "(II)V"⟩ ⟨"ParityArchive", "swapEquations", "(II)V"⟩) ∈ lw_all := lw_g (lw_at lw_ms 13 rfl) rfl
theorem qs14 : (Cond.selects "ParityArchive" ⟨"ParityArchive", "putBack", "(I)V"⟩ ⟨"ParityArchive", "putBack", "(I)V"⟩) ∈ lw_all := lw_g (lw_at lw_ms 14 rfl) rfl
theorem qs15 : (Cond.selects "ParityArchiveModel" ⟨"ParityArchiveModel", "refusal", "(III)I"⟩ ⟨"ParityArchiveModel", "refusal", "(III)I"⟩) ∈ lw_all := lw_g (lw_at lw_ms 15 rfl) rfl
theorem qs16 : (Cond.selects "ParityArchiveModel" ⟨"ParityArchiveModel", "notGood", "()I"⟩ ⟨"ParityArchiveModel", "notGood", "()I"⟩) ∈ lw_all := lw_g (lw_at lw_ms 16 rfl) rfl
end
section
set_option maxRecDepth 100000
/-! java/lang/Object -/
def RJ0 : String := "java/lang/Object"
abbrev cJ0_init : ByteArray := object_method_1_code
def yJ0_init : MethodName := ⟨RJ0, "<init>", "()V"⟩
theorem q26 : (Jvm.Cond.instanceMethod ({ cls := "java/lang/Object", name := "<init>", desc := "()V" } : Jvm.MethodName)) ∈ lw_all := lw_g (lw_at lw_m0 9 rfl) rfl
theorem q27 : (Jvm.Cond.code ({ cls := "java/lang/Object", name := "<init>", desc := "()V" } : Jvm.MethodName) object_method_1_code (1 : Nat) (Option.none : Option Jvm.ClassFile.FieldType)) ∈ lw_all := lw_g (lw_at lw_m0 10 rfl) rfl

/-! ParityArchive -/
def RX0 : String := "ParityArchive"
def TX0 : u_T := fun k => match k with
  | 0 => ("ParityArchive", "power", "[I", true)
  | 1 => ("ParityArchive", "exponent", "[I", true)
  | 2 => ("ParityArchive", "data", "[I", true)
  | 3 => ("ParityArchive", "there", "[Z", true)
  | 4 => ("ParityArchive", "check", "[I", true)
  | 5 => ("ParityArchive", "recoveries", "I", false)
  | 6 => ("ParityArchive", "recovery", "[I", true)
  | 7 => ("ParityArchive", "recoveryThere", "[Z", true)
  | 8 => ("ParityArchive", "missing", "I", false)
  | 9 => ("ParityArchive", "missingBlock", "[I", true)
  | 10 => ("ParityArchive", "usedRecovery", "[I", true)
  | _ => ("ParityArchive", "equation", "[I", true)
def tyX0 : Nat → FieldType := fun k => match k with
  | 0 => .array .int
  | 1 => .array .int
  | 2 => .array .int
  | 3 => .array .boolean
  | 4 => .array .int
  | 5 => .int
  | 6 => .array .int
  | 7 => .array .boolean
  | 8 => .int
  | 9 => .array .int
  | 10 => .array .int
  | _ => .array .int
abbrev wsX00 : List Cond := u_ws RX0 TX0 12
theorem nmX0 : ∀ a, a < 12 → ∀ b, b < 12 → a ≠ b → (TX0 a).2.1 ≠ (TX0 b).2.1 := by decide +kernel
theorem tyX0_ok : ∀ k, k < 12 → parseFieldDescriptor (TX0 k).2.2.1 = some (tyX0 k) := by decide +kernel
abbrev cX0_init : ByteArray := prog_1_method_1_code
def yX0_init : MethodName := ⟨RX0, "<init>", "()V"⟩
abbrev cX0_checkOf : ByteArray := prog_1_method_7_code
def yX0_checkOf : MethodName := ⟨RX0, "checkOf", "(I)I"⟩
abbrev cX0_write : ByteArray := prog_1_method_9_code
def yX0_write : MethodName := ⟨RX0, "write", "(III)I"⟩
abbrev cX0_badBlock : ByteArray := prog_1_method_5_code
def yX0_badBlock : MethodName := ⟨RX0, "badBlock", "(I)Z"⟩
abbrev cX0_badPlace : ByteArray := prog_1_method_6_code
def yX0_badPlace : MethodName := ⟨RX0, "badPlace", "(I)Z"⟩
abbrev cX0_stateOf : ByteArray := prog_1_method_8_code
def yX0_stateOf : MethodName := ⟨RX0, "stateOf", "(I)I"⟩
abbrev cX0_factor : ByteArray := prog_1_method_4_code
def yX0_factor : MethodName := ⟨RX0, "factor", "(II)I"⟩
abbrev cX0_inverse : ByteArray := prog_1_method_3_code
def yX0_inverse : MethodName := ⟨RX0, "inverse", "(I)I"⟩
abbrev cX0_times : ByteArray := prog_1_method_2_code
def yX0_times : MethodName := ⟨RX0, "times", "(II)I"⟩
abbrev cX0_protect : ByteArray := prog_1_method_12_code
def yX0_protect : MethodName := ⟨RX0, "protect", "(I)I"⟩
abbrev cX0_badBlocks : ByteArray := prog_1_method_10_code
def yX0_badBlocks : MethodName := ⟨RX0, "badBlocks", "()I"⟩
abbrev cX0_makeRecovery : ByteArray := prog_1_method_11_code
def yX0_makeRecovery : MethodName := ⟨RX0, "makeRecovery", "(I)V"⟩
abbrev cX0_lose : ByteArray := prog_1_method_13_code
def yX0_lose : MethodName := ⟨RX0, "lose", "(I)I"⟩
abbrev cX0_loseRecovery : ByteArray := prog_1_method_14_code
def yX0_loseRecovery : MethodName := ⟨RX0, "loseRecovery", "(I)I"⟩
abbrev cX0_spoil : ByteArray := prog_1_method_15_code
def yX0_spoil : MethodName := ⟨RX0, "spoil", "(III)I"⟩
abbrev cX0_repair : ByteArray := prog_1_method_24_code
def yX0_repair : MethodName := ⟨RX0, "repair", "()I"⟩
abbrev cX0_listMissing : ByteArray := prog_1_method_17_code
def yX0_listMissing : MethodName := ⟨RX0, "listMissing", "()V"⟩
abbrev cX0_goodRecoveries : ByteArray := prog_1_method_16_code
def yX0_goodRecoveries : MethodName := ⟨RX0, "goodRecoveries", "()I"⟩
abbrev cX0_setEquations : ByteArray := prog_1_method_18_code
def yX0_setEquations : MethodName := ⟨RX0, "setEquations", "()V"⟩
abbrev cX0_restOf : ByteArray := prog_1_method_20_code
def yX0_restOf : MethodName := ⟨RX0, "restOf", "(II)I"⟩
abbrev cX0_isMissing : ByteArray := prog_1_method_19_code
def yX0_isMissing : MethodName := ⟨RX0, "isMissing", "(I)Z"⟩
abbrev cX0_eliminate : ByteArray := prog_1_method_22_code
def yX0_eliminate : MethodName := ⟨RX0, "eliminate", "(I)V"⟩
abbrev cX0_swapEquations : ByteArray := prog_1_method_21_code
def yX0_swapEquations : MethodName := ⟨RX0, "swapEquations", "(II)V"⟩
abbrev cX0_putBack : ByteArray := prog_1_method_23_code
def yX0_putBack : MethodName := ⟨RX0, "putBack", "(I)V"⟩
abbrev cX0_giveUp : ByteArray := prog_1_method_25_code
def yX0_giveUp : MethodName := ⟨RX0, "giveUp", "()I"⟩
abbrev cX0_read : ByteArray := prog_1_method_26_code
def yX0_read : MethodName := ⟨RX0, "read", "(II)I"⟩
abbrev cX0_state : ByteArray := prog_1_method_27_code
def yX0_state : MethodName := ⟨RX0, "state", "(I)I"⟩
abbrev cX0_spare : ByteArray := prog_1_method_28_code
def yX0_spare : MethodName := ⟨RX0, "spare", "()I"⟩
abbrev cX0_margin : ByteArray := prog_1_method_29_code
def yX0_margin : MethodName := ⟨RX0, "margin", "()I"⟩
theorem q18 : (Jvm.Cond.initialized "ParityArchive") ∈ lw_all := lw_g (lw_at lw_m0 1 rfl) rfl
theorem q21 : (Jvm.Cond.instantiable "ParityArchive" (12 : Nat)) ∈ lw_all := lw_g (lw_at lw_m0 4 rfl) rfl
theorem q23 : (Jvm.Cond.instanceMethod ({ cls := "ParityArchive", name := "<init>", desc := "()V" } : Jvm.MethodName)) ∈ lw_all := lw_g (lw_at lw_m0 6 rfl) rfl
theorem q24 : (Jvm.Cond.code ({ cls := "ParityArchive", name := "<init>", desc := "()V" } : Jvm.MethodName) prog_1_method_1_code (3 : Nat) (Option.none : Option Jvm.ClassFile.FieldType)) ∈ lw_all := lw_g (lw_at lw_m0 7 rfl) rfl
theorem q25 : (Jvm.Cond.methodLink "ParityArchive" (1 : Nat) ({ cls := "java/lang/Object", name := "<init>", desc := "()V" } : Jvm.MethodName)) ∈ lw_all := lw_g (lw_at lw_m0 8 rfl) rfl
theorem q28 : (Jvm.Cond.methodLink "ParityArchive" (41 : Nat) ({ cls := "ParityArchive", name := "checkOf", desc := "(I)I" } : Jvm.MethodName)) ∈ lw_all := lw_g (lw_at lw_m0 11 rfl) rfl
theorem q29 : (Jvm.Cond.privateMethod ({ cls := "ParityArchive", name := "checkOf", desc := "(I)I" } : Jvm.MethodName)) ∈ lw_tbl := lw_at lw_m0 12 rfl
theorem q30 : (Jvm.Cond.instanceMethod ({ cls := "ParityArchive", name := "checkOf", desc := "(I)I" } : Jvm.MethodName)) ∈ lw_all := lw_g (lw_at lw_m0 13 rfl) rfl
theorem q31 : (Jvm.Cond.code ({ cls := "ParityArchive", name := "checkOf", desc := "(I)I" } : Jvm.MethodName) prog_1_method_7_code (4 : Nat) (Option.some Jvm.ClassFile.FieldType.int)) ∈ lw_all := lw_g (lw_at lw_m0 14 rfl) rfl
theorem q32 : (Jvm.Cond.constant "ParityArchive" (48 : Nat) (16777619 : Int32)) ∈ lw_all := lw_g (lw_at lw_m0 15 rfl) rfl
theorem q33 : (Jvm.Cond.fieldLink "ParityArchive" (7 : Nat) "ParityArchive" "power" "[I") ∈ lw_all := lw_g (lw_at lw_m0 16 rfl) rfl
theorem q34 : (Jvm.Cond.fieldLink "ParityArchive" (13 : Nat) "ParityArchive" "exponent" "[I") ∈ lw_all := lw_g (lw_at lw_m0 17 rfl) rfl
theorem q35 : (Jvm.Cond.fieldLink "ParityArchive" (16 : Nat) "ParityArchive" "data" "[I") ∈ lw_all := lw_g (lw_at lw_m0 18 rfl) rfl
theorem q36 : (Jvm.Cond.fieldLink "ParityArchive" (19 : Nat) "ParityArchive" "there" "[Z") ∈ lw_all := lw_g (lw_at lw_m0 19 rfl) rfl
theorem q37 : (Jvm.Cond.fieldLink "ParityArchive" (23 : Nat) "ParityArchive" "check" "[I") ∈ lw_all := lw_g (lw_at lw_m0 20 rfl) rfl
theorem q38 : (Jvm.Cond.fieldLink "ParityArchive" (59 : Nat) "ParityArchive" "recoveries" "I") ∈ lw_all := lw_g (lw_at lw_m0 21 rfl) rfl
theorem q39 : (Jvm.Cond.fieldLink "ParityArchive" (26 : Nat) "ParityArchive" "recovery" "[I") ∈ lw_all := lw_g (lw_at lw_m0 22 rfl) rfl
theorem q40 : (Jvm.Cond.fieldLink "ParityArchive" (29 : Nat) "ParityArchive" "recoveryThere" "[Z") ∈ lw_all := lw_g (lw_at lw_m0 23 rfl) rfl
theorem q41 : (Jvm.Cond.fieldLink "ParityArchive" (78 : Nat) "ParityArchive" "missing" "I") ∈ lw_all := lw_g (lw_at lw_m0 24 rfl) rfl
theorem q42 : (Jvm.Cond.fieldLink "ParityArchive" (32 : Nat) "ParityArchive" "missingBlock" "[I") ∈ lw_all := lw_g (lw_at lw_m0 25 rfl) rfl
theorem q43 : (Jvm.Cond.fieldLink "ParityArchive" (35 : Nat) "ParityArchive" "usedRecovery" "[I") ∈ lw_all := lw_g (lw_at lw_m0 26 rfl) rfl
theorem q44 : (Jvm.Cond.fieldLink "ParityArchive" (38 : Nat) "ParityArchive" "equation" "[I") ∈ lw_all := lw_g (lw_at lw_m0 27 rfl) rfl
theorem q45 : (Jvm.Cond.laysFinal "ParityArchive" "ParityArchive" "power" "[I") ∈ lw_all := lw_g (lw_at lw_m0 28 rfl) rfl
theorem q46 : (Jvm.Cond.soleField "ParityArchive" "power") ∈ lw_all := lw_g (lw_at lw_m0 29 rfl) rfl
theorem q47 : (Jvm.Cond.laysFinal "ParityArchive" "ParityArchive" "exponent" "[I") ∈ lw_all := lw_g (lw_at lw_m0 30 rfl) rfl
theorem q48 : (Jvm.Cond.soleField "ParityArchive" "exponent") ∈ lw_all := lw_g (lw_at lw_m0 31 rfl) rfl
theorem q49 : (Jvm.Cond.laysFinal "ParityArchive" "ParityArchive" "data" "[I") ∈ lw_all := lw_g (lw_at lw_m0 32 rfl) rfl
theorem q50 : (Jvm.Cond.soleField "ParityArchive" "data") ∈ lw_all := lw_g (lw_at lw_m0 33 rfl) rfl
theorem q51 : (Jvm.Cond.laysFinal "ParityArchive" "ParityArchive" "there" "[Z") ∈ lw_all := lw_g (lw_at lw_m0 34 rfl) rfl
theorem q52 : (Jvm.Cond.soleField "ParityArchive" "there") ∈ lw_all := lw_g (lw_at lw_m0 35 rfl) rfl
theorem q53 : (Jvm.Cond.laysFinal "ParityArchive" "ParityArchive" "check" "[I") ∈ lw_all := lw_g (lw_at lw_m0 36 rfl) rfl
theorem q54 : (Jvm.Cond.soleField "ParityArchive" "check") ∈ lw_all := lw_g (lw_at lw_m0 37 rfl) rfl
theorem q55 : (Jvm.Cond.lays "ParityArchive" "ParityArchive" "recoveries" "I") ∈ lw_all := lw_g (lw_at lw_m0 38 rfl) rfl
theorem q56 : (Jvm.Cond.soleField "ParityArchive" "recoveries") ∈ lw_all := lw_g (lw_at lw_m0 39 rfl) rfl
theorem q57 : (Jvm.Cond.laysFinal "ParityArchive" "ParityArchive" "recovery" "[I") ∈ lw_all := lw_g (lw_at lw_m0 40 rfl) rfl
theorem q58 : (Jvm.Cond.soleField "ParityArchive" "recovery") ∈ lw_all := lw_g (lw_at lw_m0 41 rfl) rfl
theorem q59 : (Jvm.Cond.laysFinal "ParityArchive" "ParityArchive" "recoveryThere" "[Z") ∈ lw_all := lw_g (lw_at lw_m0 42 rfl) rfl
theorem q60 : (Jvm.Cond.soleField "ParityArchive" "recoveryThere") ∈ lw_all := lw_g (lw_at lw_m0 43 rfl) rfl
theorem q61 : (Jvm.Cond.lays "ParityArchive" "ParityArchive" "missing" "I") ∈ lw_all := lw_g (lw_at lw_m0 44 rfl) rfl
theorem q62 : (Jvm.Cond.soleField "ParityArchive" "missing") ∈ lw_all := lw_g (lw_at lw_m0 45 rfl) rfl
theorem q63 : (Jvm.Cond.laysFinal "ParityArchive" "ParityArchive" "missingBlock" "[I") ∈ lw_all := lw_g (lw_at lw_m0 46 rfl) rfl
theorem q64 : (Jvm.Cond.soleField "ParityArchive" "missingBlock") ∈ lw_all := lw_g (lw_at lw_m0 47 rfl) rfl
theorem q65 : (Jvm.Cond.laysFinal "ParityArchive" "ParityArchive" "usedRecovery" "[I") ∈ lw_all := lw_g (lw_at lw_m0 48 rfl) rfl
theorem q66 : (Jvm.Cond.soleField "ParityArchive" "usedRecovery") ∈ lw_all := lw_g (lw_at lw_m0 49 rfl) rfl
theorem q67 : (Jvm.Cond.laysFinal "ParityArchive" "ParityArchive" "equation" "[I") ∈ lw_all := lw_g (lw_at lw_m0 50 rfl) rfl
theorem q68 : (Jvm.Cond.soleField "ParityArchive" "equation") ∈ lw_all := lw_g (lw_at lw_m0 51 rfl) rfl
theorem q69 : (Jvm.Cond.superclass "ParityArchive" "java/lang/Object") ∈ lw_all := lw_g (lw_at lw_m0 52 rfl) rfl
theorem q73 : (Jvm.Cond.instanceMethod ({ cls := "ParityArchive", name := "write", desc := "(III)I" } : Jvm.MethodName)) ∈ lw_all := lw_g (lw_at lw_m0 56 rfl) rfl
theorem q74 : (Jvm.Cond.selects "ParityArchive" ({ cls := "ParityArchive", name := "write", desc := "(III)I" } : Jvm.MethodName) ({ cls := "ParityArchive", name := "write", desc := "(III)I" } : Jvm.MethodName)) ∈ lw_all := lw_g (lw_at lw_m0 57 rfl) rfl
theorem q75 : (Jvm.Cond.code ({ cls := "ParityArchive", name := "write", desc := "(III)I" } : Jvm.MethodName) prog_1_method_9_code (9 : Nat) (Option.some Jvm.ClassFile.FieldType.int)) ∈ lw_all := lw_g (lw_at lw_m0 58 rfl) rfl
theorem q76 : (Jvm.Cond.methodLink "ParityArchive" (49 : Nat) ({ cls := "ParityArchive", name := "badBlock", desc := "(I)Z" } : Jvm.MethodName)) ∈ lw_all := lw_g (lw_at lw_m0 59 rfl) rfl
theorem q77 : (Jvm.Cond.static ({ cls := "ParityArchive", name := "badBlock", desc := "(I)Z" } : Jvm.MethodName)) ∈ lw_all := lw_g (lw_at lw_m0 60 rfl) rfl
theorem q78 : (Jvm.Cond.code ({ cls := "ParityArchive", name := "badBlock", desc := "(I)Z" } : Jvm.MethodName) prog_1_method_5_code (1 : Nat) (Option.some Jvm.ClassFile.FieldType.boolean)) ∈ lw_all := lw_g (lw_at lw_m0 61 rfl) rfl
theorem q79 : (Jvm.Cond.methodLink "ParityArchive" (53 : Nat) ({ cls := "ParityArchive", name := "badPlace", desc := "(I)Z" } : Jvm.MethodName)) ∈ lw_all := lw_g (lw_at lw_m0 62 rfl) rfl
theorem q80 : (Jvm.Cond.static ({ cls := "ParityArchive", name := "badPlace", desc := "(I)Z" } : Jvm.MethodName)) ∈ lw_all := lw_g (lw_at lw_m0 63 rfl) rfl
theorem q81 : (Jvm.Cond.code ({ cls := "ParityArchive", name := "badPlace", desc := "(I)Z" } : Jvm.MethodName) prog_1_method_6_code (1 : Nat) (Option.some Jvm.ClassFile.FieldType.boolean)) ∈ lw_all := lw_g (lw_at lw_m0 64 rfl) rfl
theorem q82 : (Jvm.Cond.methodLink "ParityArchive" (56 : Nat) ({ cls := "ParityArchive", name := "stateOf", desc := "(I)I" } : Jvm.MethodName)) ∈ lw_all := lw_g (lw_at lw_m0 65 rfl) rfl
theorem q83 : (Jvm.Cond.privateMethod ({ cls := "ParityArchive", name := "stateOf", desc := "(I)I" } : Jvm.MethodName)) ∈ lw_tbl := lw_at lw_m0 66 rfl
theorem q84 : (Jvm.Cond.instanceMethod ({ cls := "ParityArchive", name := "stateOf", desc := "(I)I" } : Jvm.MethodName)) ∈ lw_all := lw_g (lw_at lw_m0 67 rfl) rfl
theorem q85 : (Jvm.Cond.code ({ cls := "ParityArchive", name := "stateOf", desc := "(I)I" } : Jvm.MethodName) prog_1_method_8_code (3 : Nat) (Option.some Jvm.ClassFile.FieldType.int)) ∈ lw_all := lw_g (lw_at lw_m0 68 rfl) rfl
theorem q86 : (Jvm.Cond.methodLink "ParityArchive" (63 : Nat) ({ cls := "ParityArchive", name := "factor", desc := "(II)I" } : Jvm.MethodName)) ∈ lw_all := lw_g (lw_at lw_m0 69 rfl) rfl
theorem q87 : (Jvm.Cond.privateMethod ({ cls := "ParityArchive", name := "factor", desc := "(II)I" } : Jvm.MethodName)) ∈ lw_tbl := lw_at lw_m0 70 rfl
theorem q88 : (Jvm.Cond.instanceMethod ({ cls := "ParityArchive", name := "factor", desc := "(II)I" } : Jvm.MethodName)) ∈ lw_all := lw_g (lw_at lw_m0 71 rfl) rfl
theorem q89 : (Jvm.Cond.code ({ cls := "ParityArchive", name := "factor", desc := "(II)I" } : Jvm.MethodName) prog_1_method_4_code (3 : Nat) (Option.some Jvm.ClassFile.FieldType.int)) ∈ lw_all := lw_g (lw_at lw_m0 72 rfl) rfl
theorem q90 : (Jvm.Cond.methodLink "ParityArchive" (45 : Nat) ({ cls := "ParityArchive", name := "inverse", desc := "(I)I" } : Jvm.MethodName)) ∈ lw_all := lw_g (lw_at lw_m0 73 rfl) rfl
theorem q91 : (Jvm.Cond.privateMethod ({ cls := "ParityArchive", name := "inverse", desc := "(I)I" } : Jvm.MethodName)) ∈ lw_tbl := lw_at lw_m0 74 rfl
theorem q92 : (Jvm.Cond.instanceMethod ({ cls := "ParityArchive", name := "inverse", desc := "(I)I" } : Jvm.MethodName)) ∈ lw_all := lw_g (lw_at lw_m0 75 rfl) rfl
theorem q93 : (Jvm.Cond.code ({ cls := "ParityArchive", name := "inverse", desc := "(I)I" } : Jvm.MethodName) prog_1_method_3_code (2 : Nat) (Option.some Jvm.ClassFile.FieldType.int)) ∈ lw_all := lw_g (lw_at lw_m0 76 rfl) rfl
theorem q94 : (Jvm.Cond.methodLink "ParityArchive" (67 : Nat) ({ cls := "ParityArchive", name := "times", desc := "(II)I" } : Jvm.MethodName)) ∈ lw_all := lw_g (lw_at lw_m0 77 rfl) rfl
theorem q95 : (Jvm.Cond.privateMethod ({ cls := "ParityArchive", name := "times", desc := "(II)I" } : Jvm.MethodName)) ∈ lw_tbl := lw_at lw_m0 78 rfl
theorem q96 : (Jvm.Cond.instanceMethod ({ cls := "ParityArchive", name := "times", desc := "(II)I" } : Jvm.MethodName)) ∈ lw_all := lw_g (lw_at lw_m0 79 rfl) rfl
theorem q97 : (Jvm.Cond.code ({ cls := "ParityArchive", name := "times", desc := "(II)I" } : Jvm.MethodName) prog_1_method_2_code (3 : Nat) (Option.some Jvm.ClassFile.FieldType.int)) ∈ lw_all := lw_g (lw_at lw_m0 80 rfl) rfl
theorem q99 : (Jvm.Cond.instanceMethod ({ cls := "ParityArchive", name := "protect", desc := "(I)I" } : Jvm.MethodName)) ∈ lw_all := lw_g (lw_at lw_m0 82 rfl) rfl
theorem q100 : (Jvm.Cond.selects "ParityArchive" ({ cls := "ParityArchive", name := "protect", desc := "(I)I" } : Jvm.MethodName) ({ cls := "ParityArchive", name := "protect", desc := "(I)I" } : Jvm.MethodName)) ∈ lw_all := lw_g (lw_at lw_m0 83 rfl) rfl
theorem q101 : (Jvm.Cond.code ({ cls := "ParityArchive", name := "protect", desc := "(I)I" } : Jvm.MethodName) prog_1_method_12_code (4 : Nat) (Option.some Jvm.ClassFile.FieldType.int)) ∈ lw_all := lw_g (lw_at lw_m0 84 rfl) rfl
theorem q102 : (Jvm.Cond.methodLink "ParityArchive" (70 : Nat) ({ cls := "ParityArchive", name := "badBlocks", desc := "()I" } : Jvm.MethodName)) ∈ lw_all := lw_g (lw_at lw_m0 85 rfl) rfl
theorem q103 : (Jvm.Cond.privateMethod ({ cls := "ParityArchive", name := "badBlocks", desc := "()I" } : Jvm.MethodName)) ∈ lw_tbl := lw_at lw_m0 86 rfl
theorem q104 : (Jvm.Cond.instanceMethod ({ cls := "ParityArchive", name := "badBlocks", desc := "()I" } : Jvm.MethodName)) ∈ lw_all := lw_g (lw_at lw_m0 87 rfl) rfl
theorem q105 : (Jvm.Cond.code ({ cls := "ParityArchive", name := "badBlocks", desc := "()I" } : Jvm.MethodName) prog_1_method_10_code (4 : Nat) (Option.some Jvm.ClassFile.FieldType.int)) ∈ lw_all := lw_g (lw_at lw_m0 88 rfl) rfl
theorem q106 : (Jvm.Cond.methodLink "ParityArchive" (74 : Nat) ({ cls := "ParityArchive", name := "makeRecovery", desc := "(I)V" } : Jvm.MethodName)) ∈ lw_all := lw_g (lw_at lw_m0 89 rfl) rfl
theorem q107 : (Jvm.Cond.privateMethod ({ cls := "ParityArchive", name := "makeRecovery", desc := "(I)V" } : Jvm.MethodName)) ∈ lw_tbl := lw_at lw_m0 90 rfl
theorem q108 : (Jvm.Cond.instanceMethod ({ cls := "ParityArchive", name := "makeRecovery", desc := "(I)V" } : Jvm.MethodName)) ∈ lw_all := lw_g (lw_at lw_m0 91 rfl) rfl
theorem q109 : (Jvm.Cond.code ({ cls := "ParityArchive", name := "makeRecovery", desc := "(I)V" } : Jvm.MethodName) prog_1_method_11_code (6 : Nat) (Option.none : Option Jvm.ClassFile.FieldType)) ∈ lw_all := lw_g (lw_at lw_m0 92 rfl) rfl
theorem q111 : (Jvm.Cond.instanceMethod ({ cls := "ParityArchive", name := "lose", desc := "(I)I" } : Jvm.MethodName)) ∈ lw_all := lw_g (lw_at lw_m0 94 rfl) rfl
theorem q112 : (Jvm.Cond.selects "ParityArchive" ({ cls := "ParityArchive", name := "lose", desc := "(I)I" } : Jvm.MethodName) ({ cls := "ParityArchive", name := "lose", desc := "(I)I" } : Jvm.MethodName)) ∈ lw_all := lw_g (lw_at lw_m0 95 rfl) rfl
theorem q113 : (Jvm.Cond.code ({ cls := "ParityArchive", name := "lose", desc := "(I)I" } : Jvm.MethodName) prog_1_method_13_code (3 : Nat) (Option.some Jvm.ClassFile.FieldType.int)) ∈ lw_all := lw_g (lw_at lw_m0 96 rfl) rfl
theorem q115 : (Jvm.Cond.instanceMethod ({ cls := "ParityArchive", name := "loseRecovery", desc := "(I)I" } : Jvm.MethodName)) ∈ lw_all := lw_g (lw_at lw_m0 98 rfl) rfl
theorem q116 : (Jvm.Cond.selects "ParityArchive" ({ cls := "ParityArchive", name := "loseRecovery", desc := "(I)I" } : Jvm.MethodName) ({ cls := "ParityArchive", name := "loseRecovery", desc := "(I)I" } : Jvm.MethodName)) ∈ lw_all := lw_g (lw_at lw_m0 99 rfl) rfl
theorem q117 : (Jvm.Cond.code ({ cls := "ParityArchive", name := "loseRecovery", desc := "(I)I" } : Jvm.MethodName) prog_1_method_14_code (3 : Nat) (Option.some Jvm.ClassFile.FieldType.int)) ∈ lw_all := lw_g (lw_at lw_m0 100 rfl) rfl
theorem q119 : (Jvm.Cond.instanceMethod ({ cls := "ParityArchive", name := "spoil", desc := "(III)I" } : Jvm.MethodName)) ∈ lw_all := lw_g (lw_at lw_m0 102 rfl) rfl
theorem q120 : (Jvm.Cond.selects "ParityArchive" ({ cls := "ParityArchive", name := "spoil", desc := "(III)I" } : Jvm.MethodName) ({ cls := "ParityArchive", name := "spoil", desc := "(III)I" } : Jvm.MethodName)) ∈ lw_all := lw_g (lw_at lw_m0 103 rfl) rfl
theorem q121 : (Jvm.Cond.code ({ cls := "ParityArchive", name := "spoil", desc := "(III)I" } : Jvm.MethodName) prog_1_method_15_code (5 : Nat) (Option.some Jvm.ClassFile.FieldType.int)) ∈ lw_all := lw_g (lw_at lw_m0 104 rfl) rfl
theorem q123 : (Jvm.Cond.instanceMethod ({ cls := "ParityArchive", name := "repair", desc := "()I" } : Jvm.MethodName)) ∈ lw_all := lw_g (lw_at lw_m0 106 rfl) rfl
theorem q124 : (Jvm.Cond.selects "ParityArchive" ({ cls := "ParityArchive", name := "repair", desc := "()I" } : Jvm.MethodName) ({ cls := "ParityArchive", name := "repair", desc := "()I" } : Jvm.MethodName)) ∈ lw_all := lw_g (lw_at lw_m0 107 rfl) rfl
theorem q125 : (Jvm.Cond.code ({ cls := "ParityArchive", name := "repair", desc := "()I" } : Jvm.MethodName) prog_1_method_24_code (3 : Nat) (Option.some Jvm.ClassFile.FieldType.int)) ∈ lw_all := lw_g (lw_at lw_m0 108 rfl) rfl
theorem q126 : (Jvm.Cond.methodLink "ParityArchive" (91 : Nat) ({ cls := "ParityArchive", name := "listMissing", desc := "()V" } : Jvm.MethodName)) ∈ lw_all := lw_g (lw_at lw_m0 109 rfl) rfl
theorem q127 : (Jvm.Cond.privateMethod ({ cls := "ParityArchive", name := "listMissing", desc := "()V" } : Jvm.MethodName)) ∈ lw_tbl := lw_at lw_m0 110 rfl
theorem q128 : (Jvm.Cond.instanceMethod ({ cls := "ParityArchive", name := "listMissing", desc := "()V" } : Jvm.MethodName)) ∈ lw_all := lw_g (lw_at lw_m0 111 rfl) rfl
theorem q129 : (Jvm.Cond.code ({ cls := "ParityArchive", name := "listMissing", desc := "()V" } : Jvm.MethodName) prog_1_method_17_code (3 : Nat) (Option.none : Option Jvm.ClassFile.FieldType)) ∈ lw_all := lw_g (lw_at lw_m0 112 rfl) rfl
theorem q130 : (Jvm.Cond.methodLink "ParityArchive" (94 : Nat) ({ cls := "ParityArchive", name := "goodRecoveries", desc := "()I" } : Jvm.MethodName)) ∈ lw_all := lw_g (lw_at lw_m0 113 rfl) rfl
theorem q131 : (Jvm.Cond.privateMethod ({ cls := "ParityArchive", name := "goodRecoveries", desc := "()I" } : Jvm.MethodName)) ∈ lw_tbl := lw_at lw_m0 114 rfl
theorem q132 : (Jvm.Cond.instanceMethod ({ cls := "ParityArchive", name := "goodRecoveries", desc := "()I" } : Jvm.MethodName)) ∈ lw_all := lw_g (lw_at lw_m0 115 rfl) rfl
theorem q133 : (Jvm.Cond.code ({ cls := "ParityArchive", name := "goodRecoveries", desc := "()I" } : Jvm.MethodName) prog_1_method_16_code (3 : Nat) (Option.some Jvm.ClassFile.FieldType.int)) ∈ lw_all := lw_g (lw_at lw_m0 116 rfl) rfl
theorem q134 : (Jvm.Cond.methodLink "ParityArchive" (97 : Nat) ({ cls := "ParityArchive", name := "setEquations", desc := "()V" } : Jvm.MethodName)) ∈ lw_all := lw_g (lw_at lw_m0 117 rfl) rfl
theorem q135 : (Jvm.Cond.privateMethod ({ cls := "ParityArchive", name := "setEquations", desc := "()V" } : Jvm.MethodName)) ∈ lw_tbl := lw_at lw_m0 118 rfl
theorem q136 : (Jvm.Cond.instanceMethod ({ cls := "ParityArchive", name := "setEquations", desc := "()V" } : Jvm.MethodName)) ∈ lw_all := lw_g (lw_at lw_m0 119 rfl) rfl
theorem q137 : (Jvm.Cond.code ({ cls := "ParityArchive", name := "setEquations", desc := "()V" } : Jvm.MethodName) prog_1_method_18_code (5 : Nat) (Option.none : Option Jvm.ClassFile.FieldType)) ∈ lw_all := lw_g (lw_at lw_m0 120 rfl) rfl
theorem q138 : (Jvm.Cond.methodLink "ParityArchive" (81 : Nat) ({ cls := "ParityArchive", name := "restOf", desc := "(II)I" } : Jvm.MethodName)) ∈ lw_all := lw_g (lw_at lw_m0 121 rfl) rfl
theorem q139 : (Jvm.Cond.privateMethod ({ cls := "ParityArchive", name := "restOf", desc := "(II)I" } : Jvm.MethodName)) ∈ lw_tbl := lw_at lw_m0 122 rfl
theorem q140 : (Jvm.Cond.instanceMethod ({ cls := "ParityArchive", name := "restOf", desc := "(II)I" } : Jvm.MethodName)) ∈ lw_all := lw_g (lw_at lw_m0 123 rfl) rfl
theorem q141 : (Jvm.Cond.code ({ cls := "ParityArchive", name := "restOf", desc := "(II)I" } : Jvm.MethodName) prog_1_method_20_code (7 : Nat) (Option.some Jvm.ClassFile.FieldType.int)) ∈ lw_all := lw_g (lw_at lw_m0 124 rfl) rfl
theorem q142 : (Jvm.Cond.methodLink "ParityArchive" (84 : Nat) ({ cls := "ParityArchive", name := "isMissing", desc := "(I)Z" } : Jvm.MethodName)) ∈ lw_all := lw_g (lw_at lw_m0 125 rfl) rfl
theorem q143 : (Jvm.Cond.privateMethod ({ cls := "ParityArchive", name := "isMissing", desc := "(I)Z" } : Jvm.MethodName)) ∈ lw_tbl := lw_at lw_m0 126 rfl
theorem q144 : (Jvm.Cond.instanceMethod ({ cls := "ParityArchive", name := "isMissing", desc := "(I)Z" } : Jvm.MethodName)) ∈ lw_all := lw_g (lw_at lw_m0 127 rfl) rfl
theorem q145 : (Jvm.Cond.code ({ cls := "ParityArchive", name := "isMissing", desc := "(I)Z" } : Jvm.MethodName) prog_1_method_19_code (3 : Nat) (Option.some Jvm.ClassFile.FieldType.boolean)) ∈ lw_all := lw_g (lw_at lw_m0 128 rfl) rfl
theorem q146 : (Jvm.Cond.methodLink "ParityArchive" (100 : Nat) ({ cls := "ParityArchive", name := "eliminate", desc := "(I)V" } : Jvm.MethodName)) ∈ lw_all := lw_g (lw_at lw_m0 129 rfl) rfl
theorem q147 : (Jvm.Cond.privateMethod ({ cls := "ParityArchive", name := "eliminate", desc := "(I)V" } : Jvm.MethodName)) ∈ lw_tbl := lw_at lw_m0 130 rfl
theorem q148 : (Jvm.Cond.instanceMethod ({ cls := "ParityArchive", name := "eliminate", desc := "(I)V" } : Jvm.MethodName)) ∈ lw_all := lw_g (lw_at lw_m0 131 rfl) rfl
theorem q149 : (Jvm.Cond.code ({ cls := "ParityArchive", name := "eliminate", desc := "(I)V" } : Jvm.MethodName) prog_1_method_22_code (7 : Nat) (Option.none : Option Jvm.ClassFile.FieldType)) ∈ lw_all := lw_g (lw_at lw_m0 132 rfl) rfl
theorem q150 : (Jvm.Cond.methodLink "ParityArchive" (87 : Nat) ({ cls := "ParityArchive", name := "swapEquations", desc := "(II)V" } : Jvm.MethodName)) ∈ lw_all := lw_g (lw_at lw_m0 133 rfl) rfl
theorem q151 : (Jvm.Cond.privateMethod ({ cls := "ParityArchive", name := "swapEquations", desc := "(II)V" } : Jvm.MethodName)) ∈ lw_tbl := lw_at lw_m0 134 rfl
theorem q152 : (Jvm.Cond.instanceMethod ({ cls := "ParityArchive", name := "swapEquations", desc := "(II)V" } : Jvm.MethodName)) ∈ lw_all := lw_g (lw_at lw_m0 135 rfl) rfl
theorem q153 : (Jvm.Cond.code ({ cls := "ParityArchive", name := "swapEquations", desc := "(II)V" } : Jvm.MethodName) prog_1_method_21_code (5 : Nat) (Option.none : Option Jvm.ClassFile.FieldType)) ∈ lw_all := lw_g (lw_at lw_m0 136 rfl) rfl
theorem q154 : (Jvm.Cond.methodLink "ParityArchive" (103 : Nat) ({ cls := "ParityArchive", name := "putBack", desc := "(I)V" } : Jvm.MethodName)) ∈ lw_all := lw_g (lw_at lw_m0 137 rfl) rfl
theorem q155 : (Jvm.Cond.privateMethod ({ cls := "ParityArchive", name := "putBack", desc := "(I)V" } : Jvm.MethodName)) ∈ lw_tbl := lw_at lw_m0 138 rfl
theorem q156 : (Jvm.Cond.instanceMethod ({ cls := "ParityArchive", name := "putBack", desc := "(I)V" } : Jvm.MethodName)) ∈ lw_all := lw_g (lw_at lw_m0 139 rfl) rfl
theorem q157 : (Jvm.Cond.code ({ cls := "ParityArchive", name := "putBack", desc := "(I)V" } : Jvm.MethodName) prog_1_method_23_code (4 : Nat) (Option.none : Option Jvm.ClassFile.FieldType)) ∈ lw_all := lw_g (lw_at lw_m0 140 rfl) rfl
theorem q159 : (Jvm.Cond.instanceMethod ({ cls := "ParityArchive", name := "giveUp", desc := "()I" } : Jvm.MethodName)) ∈ lw_all := lw_g (lw_at lw_m0 142 rfl) rfl
theorem q160 : (Jvm.Cond.selects "ParityArchive" ({ cls := "ParityArchive", name := "giveUp", desc := "()I" } : Jvm.MethodName) ({ cls := "ParityArchive", name := "giveUp", desc := "()I" } : Jvm.MethodName)) ∈ lw_all := lw_g (lw_at lw_m0 143 rfl) rfl
theorem q161 : (Jvm.Cond.code ({ cls := "ParityArchive", name := "giveUp", desc := "()I" } : Jvm.MethodName) prog_1_method_25_code (4 : Nat) (Option.some Jvm.ClassFile.FieldType.int)) ∈ lw_all := lw_g (lw_at lw_m0 144 rfl) rfl
theorem q163 : (Jvm.Cond.instanceMethod ({ cls := "ParityArchive", name := "read", desc := "(II)I" } : Jvm.MethodName)) ∈ lw_all := lw_g (lw_at lw_m0 146 rfl) rfl
theorem q164 : (Jvm.Cond.selects "ParityArchive" ({ cls := "ParityArchive", name := "read", desc := "(II)I" } : Jvm.MethodName) ({ cls := "ParityArchive", name := "read", desc := "(II)I" } : Jvm.MethodName)) ∈ lw_all := lw_g (lw_at lw_m0 147 rfl) rfl
theorem q165 : (Jvm.Cond.code ({ cls := "ParityArchive", name := "read", desc := "(II)I" } : Jvm.MethodName) prog_1_method_26_code (4 : Nat) (Option.some Jvm.ClassFile.FieldType.int)) ∈ lw_all := lw_g (lw_at lw_m0 148 rfl) rfl
theorem q167 : (Jvm.Cond.instanceMethod ({ cls := "ParityArchive", name := "state", desc := "(I)I" } : Jvm.MethodName)) ∈ lw_all := lw_g (lw_at lw_m0 150 rfl) rfl
theorem q168 : (Jvm.Cond.selects "ParityArchive" ({ cls := "ParityArchive", name := "state", desc := "(I)I" } : Jvm.MethodName) ({ cls := "ParityArchive", name := "state", desc := "(I)I" } : Jvm.MethodName)) ∈ lw_all := lw_g (lw_at lw_m0 151 rfl) rfl
theorem q169 : (Jvm.Cond.code ({ cls := "ParityArchive", name := "state", desc := "(I)I" } : Jvm.MethodName) prog_1_method_27_code (2 : Nat) (Option.some Jvm.ClassFile.FieldType.int)) ∈ lw_all := lw_g (lw_at lw_m0 152 rfl) rfl
theorem q171 : (Jvm.Cond.instanceMethod ({ cls := "ParityArchive", name := "spare", desc := "()I" } : Jvm.MethodName)) ∈ lw_all := lw_g (lw_at lw_m0 154 rfl) rfl
theorem q172 : (Jvm.Cond.selects "ParityArchive" ({ cls := "ParityArchive", name := "spare", desc := "()I" } : Jvm.MethodName) ({ cls := "ParityArchive", name := "spare", desc := "()I" } : Jvm.MethodName)) ∈ lw_all := lw_g (lw_at lw_m0 155 rfl) rfl
theorem q173 : (Jvm.Cond.code ({ cls := "ParityArchive", name := "spare", desc := "()I" } : Jvm.MethodName) prog_1_method_28_code (1 : Nat) (Option.some Jvm.ClassFile.FieldType.int)) ∈ lw_all := lw_g (lw_at lw_m0 156 rfl) rfl
theorem q175 : (Jvm.Cond.instanceMethod ({ cls := "ParityArchive", name := "margin", desc := "()I" } : Jvm.MethodName)) ∈ lw_all := lw_g (lw_at lw_m0 158 rfl) rfl
theorem q176 : (Jvm.Cond.selects "ParityArchive" ({ cls := "ParityArchive", name := "margin", desc := "()I" } : Jvm.MethodName) ({ cls := "ParityArchive", name := "margin", desc := "()I" } : Jvm.MethodName)) ∈ lw_all := lw_g (lw_at lw_m0 159 rfl) rfl
theorem q177 : (Jvm.Cond.code ({ cls := "ParityArchive", name := "margin", desc := "()I" } : Jvm.MethodName) prog_1_method_29_code (4 : Nat) (Option.some Jvm.ClassFile.FieldType.int)) ∈ lw_all := lw_g (lw_at lw_m0 160 rfl) rfl
theorem in_X0 : ∀ w ∈ wsX00, w ∈ lw_all := lw_in wsX00 [45, 47, 49, 51, 53, 55, 57, 59, 61, 63, 65, 67] (by decide +kernel) (by decide +kernel)

/-! ParityArchiveModel -/
def RX1 : String := "ParityArchiveModel"
def TX1 : u_T := fun k => match k with
  | 0 => ("ParityArchiveModel", "real", "[I", true)
  | 1 => ("ParityArchiveModel", "states", "[I", true)
  | 2 => ("ParityArchiveModel", "recovery", "I", false)
  | _ => ("ParityArchiveModel", "recoveryLost", "[Z", true)
def tyX1 : Nat → FieldType := fun k => match k with
  | 0 => .array .int
  | 1 => .array .int
  | 2 => .int
  | _ => .array .boolean
abbrev wsX10 : List Cond := u_ws RX1 TX1 4
theorem nmX1 : ∀ a, a < 4 → ∀ b, b < 4 → a ≠ b → (TX1 a).2.1 ≠ (TX1 b).2.1 := by decide +kernel
theorem tyX1_ok : ∀ k, k < 4 → parseFieldDescriptor (TX1 k).2.2.1 = some (tyX1 k) := by decide +kernel
abbrev cX1_init : ByteArray := prog_3_method_1_code
def yX1_init : MethodName := ⟨RX1, "<init>", "()V"⟩
abbrev cX1_write : ByteArray := prog_3_method_3_code
def yX1_write : MethodName := ⟨RX1, "write", "(III)I"⟩
abbrev cX1_refusal : ByteArray := prog_3_method_2_code
def yX1_refusal : MethodName := ⟨RX1, "refusal", "(III)I"⟩
abbrev cX1_protect : ByteArray := prog_3_method_5_code
def yX1_protect : MethodName := ⟨RX1, "protect", "(I)I"⟩
abbrev cX1_notGood : ByteArray := prog_3_method_4_code
def yX1_notGood : MethodName := ⟨RX1, "notGood", "()I"⟩
abbrev cX1_lose : ByteArray := prog_3_method_6_code
def yX1_lose : MethodName := ⟨RX1, "lose", "(I)I"⟩
abbrev cX1_loseRecovery : ByteArray := prog_3_method_7_code
def yX1_loseRecovery : MethodName := ⟨RX1, "loseRecovery", "(I)I"⟩
abbrev cX1_spoil : ByteArray := prog_3_method_8_code
def yX1_spoil : MethodName := ⟨RX1, "spoil", "(III)I"⟩
abbrev cX1_repair : ByteArray := prog_3_method_9_code
def yX1_repair : MethodName := ⟨RX1, "repair", "()I"⟩
abbrev cX1_spare : ByteArray := prog_3_method_13_code
def yX1_spare : MethodName := ⟨RX1, "spare", "()I"⟩
abbrev cX1_giveUp : ByteArray := prog_3_method_10_code
def yX1_giveUp : MethodName := ⟨RX1, "giveUp", "()I"⟩
abbrev cX1_read : ByteArray := prog_3_method_11_code
def yX1_read : MethodName := ⟨RX1, "read", "(II)I"⟩
abbrev cX1_state : ByteArray := prog_3_method_12_code
def yX1_state : MethodName := ⟨RX1, "state", "(I)I"⟩
abbrev cX1_margin : ByteArray := prog_3_method_14_code
def yX1_margin : MethodName := ⟨RX1, "margin", "()I"⟩
theorem q19 : (Jvm.Cond.initialized "ParityArchiveModel") ∈ lw_all := lw_g (lw_at lw_m0 2 rfl) rfl
theorem q179 : (Jvm.Cond.instantiable "ParityArchiveModel" (4 : Nat)) ∈ lw_all := lw_g (lw_at lw_m0 162 rfl) rfl
theorem q181 : (Jvm.Cond.instanceMethod ({ cls := "ParityArchiveModel", name := "<init>", desc := "()V" } : Jvm.MethodName)) ∈ lw_all := lw_g (lw_at lw_m0 164 rfl) rfl
theorem q182 : (Jvm.Cond.code ({ cls := "ParityArchiveModel", name := "<init>", desc := "()V" } : Jvm.MethodName) prog_3_method_1_code (1 : Nat) (Option.none : Option Jvm.ClassFile.FieldType)) ∈ lw_all := lw_g (lw_at lw_m0 165 rfl) rfl
theorem q183 : (Jvm.Cond.methodLink "ParityArchiveModel" (1 : Nat) ({ cls := "java/lang/Object", name := "<init>", desc := "()V" } : Jvm.MethodName)) ∈ lw_all := lw_g (lw_at lw_m0 166 rfl) rfl
theorem q184 : (Jvm.Cond.fieldLink "ParityArchiveModel" (7 : Nat) "ParityArchiveModel" "real" "[I") ∈ lw_all := lw_g (lw_at lw_m0 167 rfl) rfl
theorem q185 : (Jvm.Cond.fieldLink "ParityArchiveModel" (13 : Nat) "ParityArchiveModel" "states" "[I") ∈ lw_all := lw_g (lw_at lw_m0 168 rfl) rfl
theorem q186 : (Jvm.Cond.fieldLink "ParityArchiveModel" (28 : Nat) "ParityArchiveModel" "recovery" "I") ∈ lw_all := lw_g (lw_at lw_m0 169 rfl) rfl
theorem q187 : (Jvm.Cond.fieldLink "ParityArchiveModel" (16 : Nat) "ParityArchiveModel" "recoveryLost" "[Z") ∈ lw_all := lw_g (lw_at lw_m0 170 rfl) rfl
theorem q188 : (Jvm.Cond.laysFinal "ParityArchiveModel" "ParityArchiveModel" "real" "[I") ∈ lw_all := lw_g (lw_at lw_m0 171 rfl) rfl
theorem q189 : (Jvm.Cond.soleField "ParityArchiveModel" "real") ∈ lw_all := lw_g (lw_at lw_m0 172 rfl) rfl
theorem q190 : (Jvm.Cond.laysFinal "ParityArchiveModel" "ParityArchiveModel" "states" "[I") ∈ lw_all := lw_g (lw_at lw_m0 173 rfl) rfl
theorem q191 : (Jvm.Cond.soleField "ParityArchiveModel" "states") ∈ lw_all := lw_g (lw_at lw_m0 174 rfl) rfl
theorem q192 : (Jvm.Cond.lays "ParityArchiveModel" "ParityArchiveModel" "recovery" "I") ∈ lw_all := lw_g (lw_at lw_m0 175 rfl) rfl
theorem q193 : (Jvm.Cond.soleField "ParityArchiveModel" "recovery") ∈ lw_all := lw_g (lw_at lw_m0 176 rfl) rfl
theorem q194 : (Jvm.Cond.laysFinal "ParityArchiveModel" "ParityArchiveModel" "recoveryLost" "[Z") ∈ lw_all := lw_g (lw_at lw_m0 177 rfl) rfl
theorem q195 : (Jvm.Cond.soleField "ParityArchiveModel" "recoveryLost") ∈ lw_all := lw_g (lw_at lw_m0 178 rfl) rfl
theorem q196 : (Jvm.Cond.superclass "ParityArchiveModel" "java/lang/Object") ∈ lw_all := lw_g (lw_at lw_m0 179 rfl) rfl
theorem q198 : (Jvm.Cond.instanceMethod ({ cls := "ParityArchiveModel", name := "write", desc := "(III)I" } : Jvm.MethodName)) ∈ lw_all := lw_g (lw_at lw_m0 181 rfl) rfl
theorem q199 : (Jvm.Cond.selects "ParityArchiveModel" ({ cls := "ParityArchiveModel", name := "write", desc := "(III)I" } : Jvm.MethodName) ({ cls := "ParityArchiveModel", name := "write", desc := "(III)I" } : Jvm.MethodName)) ∈ lw_all := lw_g (lw_at lw_m0 182 rfl) rfl
theorem q200 : (Jvm.Cond.code ({ cls := "ParityArchiveModel", name := "write", desc := "(III)I" } : Jvm.MethodName) prog_3_method_3_code (6 : Nat) (Option.some Jvm.ClassFile.FieldType.int)) ∈ lw_all := lw_g (lw_at lw_m0 183 rfl) rfl
theorem q201 : (Jvm.Cond.methodLink "ParityArchiveModel" (20 : Nat) ({ cls := "ParityArchiveModel", name := "refusal", desc := "(III)I" } : Jvm.MethodName)) ∈ lw_all := lw_g (lw_at lw_m0 184 rfl) rfl
theorem q202 : (Jvm.Cond.privateMethod ({ cls := "ParityArchiveModel", name := "refusal", desc := "(III)I" } : Jvm.MethodName)) ∈ lw_tbl := lw_at lw_m0 185 rfl
theorem q203 : (Jvm.Cond.instanceMethod ({ cls := "ParityArchiveModel", name := "refusal", desc := "(III)I" } : Jvm.MethodName)) ∈ lw_all := lw_g (lw_at lw_m0 186 rfl) rfl
theorem q204 : (Jvm.Cond.code ({ cls := "ParityArchiveModel", name := "refusal", desc := "(III)I" } : Jvm.MethodName) prog_3_method_2_code (4 : Nat) (Option.some Jvm.ClassFile.FieldType.int)) ∈ lw_all := lw_g (lw_at lw_m0 187 rfl) rfl
theorem q206 : (Jvm.Cond.instanceMethod ({ cls := "ParityArchiveModel", name := "protect", desc := "(I)I" } : Jvm.MethodName)) ∈ lw_all := lw_g (lw_at lw_m0 189 rfl) rfl
theorem q207 : (Jvm.Cond.selects "ParityArchiveModel" ({ cls := "ParityArchiveModel", name := "protect", desc := "(I)I" } : Jvm.MethodName) ({ cls := "ParityArchiveModel", name := "protect", desc := "(I)I" } : Jvm.MethodName)) ∈ lw_all := lw_g (lw_at lw_m0 190 rfl) rfl
theorem q208 : (Jvm.Cond.code ({ cls := "ParityArchiveModel", name := "protect", desc := "(I)I" } : Jvm.MethodName) prog_3_method_5_code (3 : Nat) (Option.some Jvm.ClassFile.FieldType.int)) ∈ lw_all := lw_g (lw_at lw_m0 191 rfl) rfl
theorem q209 : (Jvm.Cond.methodLink "ParityArchiveModel" (24 : Nat) ({ cls := "ParityArchiveModel", name := "notGood", desc := "()I" } : Jvm.MethodName)) ∈ lw_all := lw_g (lw_at lw_m0 192 rfl) rfl
theorem q210 : (Jvm.Cond.privateMethod ({ cls := "ParityArchiveModel", name := "notGood", desc := "()I" } : Jvm.MethodName)) ∈ lw_tbl := lw_at lw_m0 193 rfl
theorem q211 : (Jvm.Cond.instanceMethod ({ cls := "ParityArchiveModel", name := "notGood", desc := "()I" } : Jvm.MethodName)) ∈ lw_all := lw_g (lw_at lw_m0 194 rfl) rfl
theorem q212 : (Jvm.Cond.code ({ cls := "ParityArchiveModel", name := "notGood", desc := "()I" } : Jvm.MethodName) prog_3_method_4_code (3 : Nat) (Option.some Jvm.ClassFile.FieldType.int)) ∈ lw_all := lw_g (lw_at lw_m0 195 rfl) rfl
theorem q214 : (Jvm.Cond.instanceMethod ({ cls := "ParityArchiveModel", name := "lose", desc := "(I)I" } : Jvm.MethodName)) ∈ lw_all := lw_g (lw_at lw_m0 197 rfl) rfl
theorem q215 : (Jvm.Cond.selects "ParityArchiveModel" ({ cls := "ParityArchiveModel", name := "lose", desc := "(I)I" } : Jvm.MethodName) ({ cls := "ParityArchiveModel", name := "lose", desc := "(I)I" } : Jvm.MethodName)) ∈ lw_all := lw_g (lw_at lw_m0 198 rfl) rfl
theorem q216 : (Jvm.Cond.code ({ cls := "ParityArchiveModel", name := "lose", desc := "(I)I" } : Jvm.MethodName) prog_3_method_6_code (3 : Nat) (Option.some Jvm.ClassFile.FieldType.int)) ∈ lw_all := lw_g (lw_at lw_m0 199 rfl) rfl
theorem q218 : (Jvm.Cond.instanceMethod ({ cls := "ParityArchiveModel", name := "loseRecovery", desc := "(I)I" } : Jvm.MethodName)) ∈ lw_all := lw_g (lw_at lw_m0 201 rfl) rfl
theorem q219 : (Jvm.Cond.selects "ParityArchiveModel" ({ cls := "ParityArchiveModel", name := "loseRecovery", desc := "(I)I" } : Jvm.MethodName) ({ cls := "ParityArchiveModel", name := "loseRecovery", desc := "(I)I" } : Jvm.MethodName)) ∈ lw_all := lw_g (lw_at lw_m0 202 rfl) rfl
theorem q220 : (Jvm.Cond.code ({ cls := "ParityArchiveModel", name := "loseRecovery", desc := "(I)I" } : Jvm.MethodName) prog_3_method_7_code (3 : Nat) (Option.some Jvm.ClassFile.FieldType.int)) ∈ lw_all := lw_g (lw_at lw_m0 203 rfl) rfl
theorem q222 : (Jvm.Cond.instanceMethod ({ cls := "ParityArchiveModel", name := "spoil", desc := "(III)I" } : Jvm.MethodName)) ∈ lw_all := lw_g (lw_at lw_m0 205 rfl) rfl
theorem q223 : (Jvm.Cond.selects "ParityArchiveModel" ({ cls := "ParityArchiveModel", name := "spoil", desc := "(III)I" } : Jvm.MethodName) ({ cls := "ParityArchiveModel", name := "spoil", desc := "(III)I" } : Jvm.MethodName)) ∈ lw_all := lw_g (lw_at lw_m0 206 rfl) rfl
theorem q224 : (Jvm.Cond.code ({ cls := "ParityArchiveModel", name := "spoil", desc := "(III)I" } : Jvm.MethodName) prog_3_method_8_code (5 : Nat) (Option.some Jvm.ClassFile.FieldType.int)) ∈ lw_all := lw_g (lw_at lw_m0 207 rfl) rfl
theorem q226 : (Jvm.Cond.instanceMethod ({ cls := "ParityArchiveModel", name := "repair", desc := "()I" } : Jvm.MethodName)) ∈ lw_all := lw_g (lw_at lw_m0 209 rfl) rfl
theorem q227 : (Jvm.Cond.selects "ParityArchiveModel" ({ cls := "ParityArchiveModel", name := "repair", desc := "()I" } : Jvm.MethodName) ({ cls := "ParityArchiveModel", name := "repair", desc := "()I" } : Jvm.MethodName)) ∈ lw_all := lw_g (lw_at lw_m0 210 rfl) rfl
theorem q228 : (Jvm.Cond.code ({ cls := "ParityArchiveModel", name := "repair", desc := "()I" } : Jvm.MethodName) prog_3_method_9_code (3 : Nat) (Option.some Jvm.ClassFile.FieldType.int)) ∈ lw_all := lw_g (lw_at lw_m0 211 rfl) rfl
theorem q229 : (Jvm.Cond.methodLink "ParityArchiveModel" (32 : Nat) ({ cls := "ParityArchiveModel", name := "spare", desc := "()I" } : Jvm.MethodName)) ∈ lw_all := lw_g (lw_at lw_m0 212 rfl) rfl
theorem q230 : (Jvm.Cond.instanceMethod ({ cls := "ParityArchiveModel", name := "spare", desc := "()I" } : Jvm.MethodName)) ∈ lw_all := lw_g (lw_at lw_m0 213 rfl) rfl
theorem q231 : (Jvm.Cond.selects "ParityArchiveModel" ({ cls := "ParityArchiveModel", name := "spare", desc := "()I" } : Jvm.MethodName) ({ cls := "ParityArchiveModel", name := "spare", desc := "()I" } : Jvm.MethodName)) ∈ lw_all := lw_g (lw_at lw_m0 214 rfl) rfl
theorem q232 : (Jvm.Cond.code ({ cls := "ParityArchiveModel", name := "spare", desc := "()I" } : Jvm.MethodName) prog_3_method_13_code (3 : Nat) (Option.some Jvm.ClassFile.FieldType.int)) ∈ lw_all := lw_g (lw_at lw_m0 215 rfl) rfl
theorem q234 : (Jvm.Cond.instanceMethod ({ cls := "ParityArchiveModel", name := "giveUp", desc := "()I" } : Jvm.MethodName)) ∈ lw_all := lw_g (lw_at lw_m0 217 rfl) rfl
theorem q235 : (Jvm.Cond.selects "ParityArchiveModel" ({ cls := "ParityArchiveModel", name := "giveUp", desc := "()I" } : Jvm.MethodName) ({ cls := "ParityArchiveModel", name := "giveUp", desc := "()I" } : Jvm.MethodName)) ∈ lw_all := lw_g (lw_at lw_m0 218 rfl) rfl
theorem q236 : (Jvm.Cond.code ({ cls := "ParityArchiveModel", name := "giveUp", desc := "()I" } : Jvm.MethodName) prog_3_method_10_code (3 : Nat) (Option.some Jvm.ClassFile.FieldType.int)) ∈ lw_all := lw_g (lw_at lw_m0 219 rfl) rfl
theorem q238 : (Jvm.Cond.instanceMethod ({ cls := "ParityArchiveModel", name := "read", desc := "(II)I" } : Jvm.MethodName)) ∈ lw_all := lw_g (lw_at lw_m0 221 rfl) rfl
theorem q239 : (Jvm.Cond.selects "ParityArchiveModel" ({ cls := "ParityArchiveModel", name := "read", desc := "(II)I" } : Jvm.MethodName) ({ cls := "ParityArchiveModel", name := "read", desc := "(II)I" } : Jvm.MethodName)) ∈ lw_all := lw_g (lw_at lw_m0 222 rfl) rfl
theorem q240 : (Jvm.Cond.code ({ cls := "ParityArchiveModel", name := "read", desc := "(II)I" } : Jvm.MethodName) prog_3_method_11_code (4 : Nat) (Option.some Jvm.ClassFile.FieldType.int)) ∈ lw_all := lw_g (lw_at lw_m0 223 rfl) rfl
theorem q242 : (Jvm.Cond.instanceMethod ({ cls := "ParityArchiveModel", name := "state", desc := "(I)I" } : Jvm.MethodName)) ∈ lw_all := lw_g (lw_at lw_m0 225 rfl) rfl
theorem q243 : (Jvm.Cond.selects "ParityArchiveModel" ({ cls := "ParityArchiveModel", name := "state", desc := "(I)I" } : Jvm.MethodName) ({ cls := "ParityArchiveModel", name := "state", desc := "(I)I" } : Jvm.MethodName)) ∈ lw_all := lw_g (lw_at lw_m0 226 rfl) rfl
theorem q244 : (Jvm.Cond.code ({ cls := "ParityArchiveModel", name := "state", desc := "(I)I" } : Jvm.MethodName) prog_3_method_12_code (2 : Nat) (Option.some Jvm.ClassFile.FieldType.int)) ∈ lw_all := lw_g (lw_at lw_m0 227 rfl) rfl
theorem q247 : (Jvm.Cond.instanceMethod ({ cls := "ParityArchiveModel", name := "margin", desc := "()I" } : Jvm.MethodName)) ∈ lw_all := lw_g (lw_at lw_m0 230 rfl) rfl
theorem q248 : (Jvm.Cond.selects "ParityArchiveModel" ({ cls := "ParityArchiveModel", name := "margin", desc := "()I" } : Jvm.MethodName) ({ cls := "ParityArchiveModel", name := "margin", desc := "()I" } : Jvm.MethodName)) ∈ lw_all := lw_g (lw_at lw_m0 231 rfl) rfl
theorem q249 : (Jvm.Cond.code ({ cls := "ParityArchiveModel", name := "margin", desc := "()I" } : Jvm.MethodName) prog_3_method_14_code (3 : Nat) (Option.some Jvm.ClassFile.FieldType.int)) ∈ lw_all := lw_g (lw_at lw_m0 232 rfl) rfl
theorem in_X1 : ∀ w ∈ wsX10, w ∈ lw_all := lw_in wsX10 [188, 190, 192, 194] (by decide +kernel) (by decide +kernel)

theorem q70 : (Jvm.Cond.arrayClass Jvm.ClassFile.FieldType.int) ∈ lw_all := lw_g (lw_at lw_m0 53 rfl) rfl
theorem q71 : (Jvm.Cond.arrayClass Jvm.ClassFile.FieldType.boolean) ∈ lw_all := lw_g (lw_at lw_m0 54 rfl) rfl

theorem q17 : (Jvm.Cond.initialized "ParityArchiveLaw") ∈ lw_all := lw_g (lw_at lw_m0 0 rfl) rfl
theorem q20 : (Jvm.Cond.classLink "ParityArchiveLaw" (7 : Nat) "ParityArchive") ∈ lw_all := lw_g (lw_at lw_m0 3 rfl) rfl
theorem q22 : (Jvm.Cond.methodLink "ParityArchiveLaw" (9 : Nat) ({ cls := "ParityArchive", name := "<init>", desc := "()V" } : Jvm.MethodName)) ∈ lw_all := lw_g (lw_at lw_m0 5 rfl) rfl
theorem q72 : (Jvm.Cond.methodLink "ParityArchiveLaw" (13 : Nat) ({ cls := "ParityArchive", name := "write", desc := "(III)I" } : Jvm.MethodName)) ∈ lw_all := lw_g (lw_at lw_m0 55 rfl) rfl
theorem q98 : (Jvm.Cond.methodLink "ParityArchiveLaw" (18 : Nat) ({ cls := "ParityArchive", name := "protect", desc := "(I)I" } : Jvm.MethodName)) ∈ lw_all := lw_g (lw_at lw_m0 81 rfl) rfl
theorem q110 : (Jvm.Cond.methodLink "ParityArchiveLaw" (23 : Nat) ({ cls := "ParityArchive", name := "lose", desc := "(I)I" } : Jvm.MethodName)) ∈ lw_all := lw_g (lw_at lw_m0 93 rfl) rfl
theorem q114 : (Jvm.Cond.methodLink "ParityArchiveLaw" (27 : Nat) ({ cls := "ParityArchive", name := "loseRecovery", desc := "(I)I" } : Jvm.MethodName)) ∈ lw_all := lw_g (lw_at lw_m0 97 rfl) rfl
theorem q118 : (Jvm.Cond.methodLink "ParityArchiveLaw" (31 : Nat) ({ cls := "ParityArchive", name := "spoil", desc := "(III)I" } : Jvm.MethodName)) ∈ lw_all := lw_g (lw_at lw_m0 101 rfl) rfl
theorem q122 : (Jvm.Cond.methodLink "ParityArchiveLaw" (35 : Nat) ({ cls := "ParityArchive", name := "repair", desc := "()I" } : Jvm.MethodName)) ∈ lw_all := lw_g (lw_at lw_m0 105 rfl) rfl
theorem q158 : (Jvm.Cond.methodLink "ParityArchiveLaw" (40 : Nat) ({ cls := "ParityArchive", name := "giveUp", desc := "()I" } : Jvm.MethodName)) ∈ lw_all := lw_g (lw_at lw_m0 141 rfl) rfl
theorem q162 : (Jvm.Cond.methodLink "ParityArchiveLaw" (44 : Nat) ({ cls := "ParityArchive", name := "read", desc := "(II)I" } : Jvm.MethodName)) ∈ lw_all := lw_g (lw_at lw_m0 145 rfl) rfl
theorem q166 : (Jvm.Cond.methodLink "ParityArchiveLaw" (49 : Nat) ({ cls := "ParityArchive", name := "state", desc := "(I)I" } : Jvm.MethodName)) ∈ lw_all := lw_g (lw_at lw_m0 149 rfl) rfl
theorem q170 : (Jvm.Cond.methodLink "ParityArchiveLaw" (53 : Nat) ({ cls := "ParityArchive", name := "spare", desc := "()I" } : Jvm.MethodName)) ∈ lw_all := lw_g (lw_at lw_m0 153 rfl) rfl
theorem q174 : (Jvm.Cond.methodLink "ParityArchiveLaw" (57 : Nat) ({ cls := "ParityArchive", name := "margin", desc := "()I" } : Jvm.MethodName)) ∈ lw_all := lw_g (lw_at lw_m0 157 rfl) rfl
theorem q178 : (Jvm.Cond.classLink "ParityArchiveLaw" (10 : Nat) "ParityArchiveModel") ∈ lw_all := lw_g (lw_at lw_m0 161 rfl) rfl
theorem q180 : (Jvm.Cond.methodLink "ParityArchiveLaw" (12 : Nat) ({ cls := "ParityArchiveModel", name := "<init>", desc := "()V" } : Jvm.MethodName)) ∈ lw_all := lw_g (lw_at lw_m0 163 rfl) rfl
theorem q197 : (Jvm.Cond.methodLink "ParityArchiveLaw" (17 : Nat) ({ cls := "ParityArchiveModel", name := "write", desc := "(III)I" } : Jvm.MethodName)) ∈ lw_all := lw_g (lw_at lw_m0 180 rfl) rfl
theorem q205 : (Jvm.Cond.methodLink "ParityArchiveLaw" (22 : Nat) ({ cls := "ParityArchiveModel", name := "protect", desc := "(I)I" } : Jvm.MethodName)) ∈ lw_all := lw_g (lw_at lw_m0 188 rfl) rfl
theorem q213 : (Jvm.Cond.methodLink "ParityArchiveLaw" (26 : Nat) ({ cls := "ParityArchiveModel", name := "lose", desc := "(I)I" } : Jvm.MethodName)) ∈ lw_all := lw_g (lw_at lw_m0 196 rfl) rfl
theorem q217 : (Jvm.Cond.methodLink "ParityArchiveLaw" (30 : Nat) ({ cls := "ParityArchiveModel", name := "loseRecovery", desc := "(I)I" } : Jvm.MethodName)) ∈ lw_all := lw_g (lw_at lw_m0 200 rfl) rfl
theorem q221 : (Jvm.Cond.methodLink "ParityArchiveLaw" (34 : Nat) ({ cls := "ParityArchiveModel", name := "spoil", desc := "(III)I" } : Jvm.MethodName)) ∈ lw_all := lw_g (lw_at lw_m0 204 rfl) rfl
theorem q225 : (Jvm.Cond.methodLink "ParityArchiveLaw" (39 : Nat) ({ cls := "ParityArchiveModel", name := "repair", desc := "()I" } : Jvm.MethodName)) ∈ lw_all := lw_g (lw_at lw_m0 208 rfl) rfl
theorem q233 : (Jvm.Cond.methodLink "ParityArchiveLaw" (43 : Nat) ({ cls := "ParityArchiveModel", name := "giveUp", desc := "()I" } : Jvm.MethodName)) ∈ lw_all := lw_g (lw_at lw_m0 216 rfl) rfl
theorem q237 : (Jvm.Cond.methodLink "ParityArchiveLaw" (48 : Nat) ({ cls := "ParityArchiveModel", name := "read", desc := "(II)I" } : Jvm.MethodName)) ∈ lw_all := lw_g (lw_at lw_m0 220 rfl) rfl
theorem q241 : (Jvm.Cond.methodLink "ParityArchiveLaw" (52 : Nat) ({ cls := "ParityArchiveModel", name := "state", desc := "(I)I" } : Jvm.MethodName)) ∈ lw_all := lw_g (lw_at lw_m0 224 rfl) rfl
theorem q245 : (Jvm.Cond.methodLink "ParityArchiveLaw" (56 : Nat) ({ cls := "ParityArchiveModel", name := "spare", desc := "()I" } : Jvm.MethodName)) ∈ lw_all := lw_g (lw_at lw_m0 228 rfl) rfl
theorem q246 : (Jvm.Cond.methodLink "ParityArchiveLaw" (60 : Nat) ({ cls := "ParityArchiveModel", name := "margin", desc := "()I" } : Jvm.MethodName)) ∈ lw_all := lw_g (lw_at lw_m0 229 rfl) rfl

/-! the law's own entry -/
abbrev cL_law : ByteArray := code
end
section
set_option maxRecDepth 100000
theorem dX0_init_0 : decode cX0_init 0 = .ok (.aload_n 0, 1) := by decide +kernel
theorem dX0_init_1 : decode cX0_init 1 = .ok (.invokespecial 1, 3) := by decide +kernel
theorem dX0_init_4 : decode cX0_init 4 = .ok (.aload_n 0, 1) := by decide +kernel
theorem dX0_init_5 : decode cX0_init 5 = .ok (.sipush 256, 3) := by decide +kernel
theorem dX0_init_8 : decode cX0_init 8 = .ok (.newarray .int, 2) := by decide +kernel
theorem dX0_init_10 : decode cX0_init 10 = .ok (.putfield 7, 3) := by decide +kernel
theorem dX0_init_13 : decode cX0_init 13 = .ok (.aload_n 0, 1) := by decide +kernel
theorem dX0_init_14 : decode cX0_init 14 = .ok (.sipush 256, 3) := by decide +kernel
theorem dX0_init_17 : decode cX0_init 17 = .ok (.newarray .int, 2) := by decide +kernel
theorem dX0_init_19 : decode cX0_init 19 = .ok (.putfield 13, 3) := by decide +kernel
theorem dX0_init_22 : decode cX0_init 22 = .ok (.aload_n 0, 1) := by decide +kernel
theorem dX0_init_23 : decode cX0_init 23 = .ok (.bipush 48, 2) := by decide +kernel
theorem dX0_init_25 : decode cX0_init 25 = .ok (.newarray .int, 2) := by decide +kernel
theorem dX0_init_27 : decode cX0_init 27 = .ok (.putfield 16, 3) := by decide +kernel
theorem dX0_init_30 : decode cX0_init 30 = .ok (.aload_n 0, 1) := by decide +kernel
theorem dX0_init_31 : decode cX0_init 31 = .ok (.bipush 6, 2) := by decide +kernel
theorem dX0_init_33 : decode cX0_init 33 = .ok (.newarray .boolean, 2) := by decide +kernel
theorem dX0_init_35 : decode cX0_init 35 = .ok (.putfield 19, 3) := by decide +kernel
theorem dX0_init_38 : decode cX0_init 38 = .ok (.aload_n 0, 1) := by decide +kernel
theorem dX0_init_39 : decode cX0_init 39 = .ok (.bipush 6, 2) := by decide +kernel
theorem dX0_init_41 : decode cX0_init 41 = .ok (.newarray .int, 2) := by decide +kernel
theorem dX0_init_43 : decode cX0_init 43 = .ok (.putfield 23, 3) := by decide +kernel
theorem dX0_init_46 : decode cX0_init 46 = .ok (.aload_n 0, 1) := by decide +kernel
theorem dX0_init_47 : decode cX0_init 47 = .ok (.bipush 32, 2) := by decide +kernel
theorem dX0_init_49 : decode cX0_init 49 = .ok (.newarray .int, 2) := by decide +kernel
theorem dX0_init_51 : decode cX0_init 51 = .ok (.putfield 26, 3) := by decide +kernel
theorem dX0_init_54 : decode cX0_init 54 = .ok (.aload_n 0, 1) := by decide +kernel
theorem dX0_init_55 : decode cX0_init 55 = .ok (.iconst 4, 1) := by decide +kernel
theorem dX0_init_56 : decode cX0_init 56 = .ok (.newarray .boolean, 2) := by decide +kernel
theorem dX0_init_58 : decode cX0_init 58 = .ok (.putfield 29, 3) := by decide +kernel
theorem dX0_init_61 : decode cX0_init 61 = .ok (.aload_n 0, 1) := by decide +kernel
theorem dX0_init_62 : decode cX0_init 62 = .ok (.bipush 6, 2) := by decide +kernel
theorem dX0_init_64 : decode cX0_init 64 = .ok (.newarray .int, 2) := by decide +kernel
theorem dX0_init_66 : decode cX0_init 66 = .ok (.putfield 32, 3) := by decide +kernel
theorem dX0_init_69 : decode cX0_init 69 = .ok (.aload_n 0, 1) := by decide +kernel
theorem dX0_init_70 : decode cX0_init 70 = .ok (.bipush 6, 2) := by decide +kernel
theorem dX0_init_72 : decode cX0_init 72 = .ok (.newarray .int, 2) := by decide +kernel
theorem dX0_init_74 : decode cX0_init 74 = .ok (.putfield 35, 3) := by decide +kernel
theorem dX0_init_77 : decode cX0_init 77 = .ok (.aload_n 0, 1) := by decide +kernel
theorem dX0_init_78 : decode cX0_init 78 = .ok (.bipush 72, 2) := by decide +kernel
theorem dX0_init_80 : decode cX0_init 80 = .ok (.newarray .int, 2) := by decide +kernel
theorem dX0_init_82 : decode cX0_init 82 = .ok (.putfield 38, 3) := by decide +kernel
theorem dX0_init_85 : decode cX0_init 85 = .ok (.iconst 1, 1) := by decide +kernel
theorem dX0_init_86 : decode cX0_init 86 = .ok (.istore_n 1, 1) := by decide +kernel
theorem dX0_init_87 : decode cX0_init 87 = .ok (.iconst 0, 1) := by decide +kernel
theorem dX0_init_88 : decode cX0_init 88 = .ok (.istore_n 2, 1) := by decide +kernel
theorem dX0_init_89 : decode cX0_init 89 = .ok (.iload_n 2, 1) := by decide +kernel
theorem dX0_init_90 : decode cX0_init 90 = .ok (.sipush 255, 3) := by decide +kernel
theorem dX0_init_93 : decode cX0_init 93 = .ok (.if_icmp .ge 40, 3) := by decide +kernel
theorem dX0_init_96 : decode cX0_init 96 = .ok (.aload_n 0, 1) := by decide +kernel
theorem dX0_init_97 : decode cX0_init 97 = .ok (.getfield 7, 3) := by decide +kernel
theorem dX0_init_100 : decode cX0_init 100 = .ok (.iload_n 2, 1) := by decide +kernel
theorem dX0_init_101 : decode cX0_init 101 = .ok (.iload_n 1, 1) := by decide +kernel
theorem dX0_init_102 : decode cX0_init 102 = .ok (.iastore, 1) := by decide +kernel
theorem dX0_init_103 : decode cX0_init 103 = .ok (.aload_n 0, 1) := by decide +kernel
theorem dX0_init_104 : decode cX0_init 104 = .ok (.getfield 13, 3) := by decide +kernel
theorem dX0_init_107 : decode cX0_init 107 = .ok (.iload_n 1, 1) := by decide +kernel
theorem dX0_init_108 : decode cX0_init 108 = .ok (.iload_n 2, 1) := by decide +kernel
theorem dX0_init_109 : decode cX0_init 109 = .ok (.iastore, 1) := by decide +kernel
theorem dX0_init_110 : decode cX0_init 110 = .ok (.iload_n 1, 1) := by decide +kernel
theorem dX0_init_111 : decode cX0_init 111 = .ok (.iconst 1, 1) := by decide +kernel
theorem dX0_init_112 : decode cX0_init 112 = .ok (.ishl, 1) := by decide +kernel
theorem dX0_init_113 : decode cX0_init 113 = .ok (.istore_n 1, 1) := by decide +kernel
theorem dX0_init_114 : decode cX0_init 114 = .ok (.iload_n 1, 1) := by decide +kernel
theorem dX0_init_115 : decode cX0_init 115 = .ok (.sipush 255, 3) := by decide +kernel
theorem dX0_init_118 : decode cX0_init 118 = .ok (.if_icmp .le 9, 3) := by decide +kernel
theorem dX0_init_121 : decode cX0_init 121 = .ok (.iload_n 1, 1) := by decide +kernel
theorem dX0_init_122 : decode cX0_init 122 = .ok (.sipush 285, 3) := by decide +kernel
theorem dX0_init_125 : decode cX0_init 125 = .ok (.ixor, 1) := by decide +kernel
theorem dX0_init_126 : decode cX0_init 126 = .ok (.istore_n 1, 1) := by decide +kernel
theorem dX0_init_127 : decode cX0_init 127 = .ok (.iinc 2 1, 3) := by decide +kernel
theorem dX0_init_130 : decode cX0_init 130 = .ok (.goto (-41), 3) := by decide +kernel
theorem dX0_init_133 : decode cX0_init 133 = .ok (.aload_n 0, 1) := by decide +kernel
theorem dX0_init_134 : decode cX0_init 134 = .ok (.getfield 7, 3) := by decide +kernel
theorem dX0_init_137 : decode cX0_init 137 = .ok (.sipush 255, 3) := by decide +kernel
theorem dX0_init_140 : decode cX0_init 140 = .ok (.iconst 1, 1) := by decide +kernel
theorem dX0_init_141 : decode cX0_init 141 = .ok (.iastore, 1) := by decide +kernel
theorem dX0_init_142 : decode cX0_init 142 = .ok (.iconst 0, 1) := by decide +kernel
theorem dX0_init_143 : decode cX0_init 143 = .ok (.istore_n 2, 1) := by decide +kernel
theorem dX0_init_144 : decode cX0_init 144 = .ok (.iload_n 2, 1) := by decide +kernel
theorem dX0_init_145 : decode cX0_init 145 = .ok (.bipush 6, 2) := by decide +kernel
theorem dX0_init_147 : decode cX0_init 147 = .ok (.if_icmp .ge 27, 3) := by decide +kernel
theorem dX0_init_150 : decode cX0_init 150 = .ok (.aload_n 0, 1) := by decide +kernel
theorem dX0_init_151 : decode cX0_init 151 = .ok (.getfield 19, 3) := by decide +kernel
theorem dX0_init_154 : decode cX0_init 154 = .ok (.iload_n 2, 1) := by decide +kernel
theorem dX0_init_155 : decode cX0_init 155 = .ok (.iconst 1, 1) := by decide +kernel
theorem dX0_init_156 : decode cX0_init 156 = .ok (.bastore, 1) := by decide +kernel
theorem dX0_init_157 : decode cX0_init 157 = .ok (.aload_n 0, 1) := by decide +kernel
theorem dX0_init_158 : decode cX0_init 158 = .ok (.getfield 23, 3) := by decide +kernel
theorem dX0_init_161 : decode cX0_init 161 = .ok (.iload_n 2, 1) := by decide +kernel
theorem dX0_init_162 : decode cX0_init 162 = .ok (.aload_n 0, 1) := by decide +kernel
theorem dX0_init_163 : decode cX0_init 163 = .ok (.iload_n 2, 1) := by decide +kernel
theorem dX0_init_164 : decode cX0_init 164 = .ok (.invokevirtual 41, 3) := by decide +kernel
theorem dX0_init_167 : decode cX0_init 167 = .ok (.iastore, 1) := by decide +kernel
theorem dX0_init_168 : decode cX0_init 168 = .ok (.iinc 2 1, 3) := by decide +kernel
theorem dX0_init_171 : decode cX0_init 171 = .ok (.goto (-27), 3) := by decide +kernel
theorem dX0_init_174 : decode cX0_init 174 = .ok (.return_, 1) := by decide +kernel
theorem dX0_checkOf_0 : decode cX0_checkOf 0 = .ok (.bipush 17, 2) := by decide +kernel
theorem dX0_checkOf_2 : decode cX0_checkOf 2 = .ok (.istore_n 2, 1) := by decide +kernel
theorem dX0_checkOf_3 : decode cX0_checkOf 3 = .ok (.iconst 0, 1) := by decide +kernel
theorem dX0_checkOf_4 : decode cX0_checkOf 4 = .ok (.istore_n 3, 1) := by decide +kernel
theorem dX0_checkOf_5 : decode cX0_checkOf 5 = .ok (.iload_n 3, 1) := by decide +kernel
theorem dX0_checkOf_6 : decode cX0_checkOf 6 = .ok (.bipush 8, 2) := by decide +kernel
theorem dX0_checkOf_8 : decode cX0_checkOf 8 = .ok (.if_icmp .ge 26, 3) := by decide +kernel
theorem dX0_checkOf_11 : decode cX0_checkOf 11 = .ok (.iload_n 2, 1) := by decide +kernel
theorem dX0_checkOf_12 : decode cX0_checkOf 12 = .ok (.ldc 48, 2) := by decide +kernel
theorem dX0_checkOf_14 : decode cX0_checkOf 14 = .ok (.imul, 1) := by decide +kernel
theorem dX0_checkOf_15 : decode cX0_checkOf 15 = .ok (.aload_n 0, 1) := by decide +kernel
theorem dX0_checkOf_16 : decode cX0_checkOf 16 = .ok (.getfield 16, 3) := by decide +kernel
theorem dX0_checkOf_19 : decode cX0_checkOf 19 = .ok (.iload_n 1, 1) := by decide +kernel
theorem dX0_checkOf_20 : decode cX0_checkOf 20 = .ok (.bipush 8, 2) := by decide +kernel
theorem dX0_checkOf_22 : decode cX0_checkOf 22 = .ok (.imul, 1) := by decide +kernel
theorem dX0_checkOf_23 : decode cX0_checkOf 23 = .ok (.iload_n 3, 1) := by decide +kernel
theorem dX0_checkOf_24 : decode cX0_checkOf 24 = .ok (.iadd, 1) := by decide +kernel
theorem dX0_checkOf_25 : decode cX0_checkOf 25 = .ok (.iaload, 1) := by decide +kernel
theorem dX0_checkOf_26 : decode cX0_checkOf 26 = .ok (.iadd, 1) := by decide +kernel
theorem dX0_checkOf_27 : decode cX0_checkOf 27 = .ok (.istore_n 2, 1) := by decide +kernel
theorem dX0_checkOf_28 : decode cX0_checkOf 28 = .ok (.iinc 3 1, 3) := by decide +kernel
theorem dX0_checkOf_31 : decode cX0_checkOf 31 = .ok (.goto (-26), 3) := by decide +kernel
theorem dX0_checkOf_34 : decode cX0_checkOf 34 = .ok (.iload_n 2, 1) := by decide +kernel
theorem dX0_checkOf_35 : decode cX0_checkOf 35 = .ok (.ireturn, 1) := by decide +kernel
theorem dX0_write_0 : decode cX0_write 0 = .ok (.iload_n 1, 1) := by decide +kernel
theorem dX0_write_1 : decode cX0_write 1 = .ok (.invokestatic 49, 3) := by decide +kernel
theorem dX0_write_4 : decode cX0_write 4 = .ok (.ifCond .eq 5, 3) := by decide +kernel
theorem dX0_write_7 : decode cX0_write 7 = .ok (.iconst (-1), 1) := by decide +kernel
theorem dX0_write_8 : decode cX0_write 8 = .ok (.ireturn, 1) := by decide +kernel
theorem dX0_write_9 : decode cX0_write 9 = .ok (.iload_n 2, 1) := by decide +kernel
theorem dX0_write_10 : decode cX0_write 10 = .ok (.invokestatic 53, 3) := by decide +kernel
theorem dX0_write_13 : decode cX0_write 13 = .ok (.ifCond .eq 6, 3) := by decide +kernel
theorem dX0_write_16 : decode cX0_write 16 = .ok (.bipush (-2), 2) := by decide +kernel
theorem dX0_write_18 : decode cX0_write 18 = .ok (.ireturn, 1) := by decide +kernel
theorem dX0_write_19 : decode cX0_write 19 = .ok (.iload_n 3, 1) := by decide +kernel
theorem dX0_write_20 : decode cX0_write 20 = .ok (.ifCond .lt 10, 3) := by decide +kernel
theorem dX0_write_23 : decode cX0_write 23 = .ok (.iload_n 3, 1) := by decide +kernel
theorem dX0_write_24 : decode cX0_write 24 = .ok (.sipush 255, 3) := by decide +kernel
theorem dX0_write_27 : decode cX0_write 27 = .ok (.if_icmp .le 6, 3) := by decide +kernel
theorem dX0_write_30 : decode cX0_write 30 = .ok (.bipush (-3), 2) := by decide +kernel
theorem dX0_write_32 : decode cX0_write 32 = .ok (.ireturn, 1) := by decide +kernel
theorem dX0_write_33 : decode cX0_write 33 = .ok (.aload_n 0, 1) := by decide +kernel
theorem dX0_write_34 : decode cX0_write 34 = .ok (.iload_n 1, 1) := by decide +kernel
theorem dX0_write_35 : decode cX0_write 35 = .ok (.invokevirtual 56, 3) := by decide +kernel
theorem dX0_write_38 : decode cX0_write 38 = .ok (.istore 4, 2) := by decide +kernel
theorem dX0_write_40 : decode cX0_write 40 = .ok (.iload 4, 2) := by decide +kernel
theorem dX0_write_42 : decode cX0_write 42 = .ok (.ifCond .eq 6, 3) := by decide +kernel
theorem dX0_write_45 : decode cX0_write 45 = .ok (.bipush (-4), 2) := by decide +kernel
theorem dX0_write_47 : decode cX0_write 47 = .ok (.ireturn, 1) := by decide +kernel
theorem dX0_write_48 : decode cX0_write 48 = .ok (.iload_n 1, 1) := by decide +kernel
theorem dX0_write_49 : decode cX0_write 49 = .ok (.bipush 8, 2) := by decide +kernel
theorem dX0_write_51 : decode cX0_write 51 = .ok (.imul, 1) := by decide +kernel
theorem dX0_write_52 : decode cX0_write 52 = .ok (.iload_n 2, 1) := by decide +kernel
theorem dX0_write_53 : decode cX0_write 53 = .ok (.iadd, 1) := by decide +kernel
theorem dX0_write_54 : decode cX0_write 54 = .ok (.istore 5, 2) := by decide +kernel
theorem dX0_write_56 : decode cX0_write 56 = .ok (.aload_n 0, 1) := by decide +kernel
theorem dX0_write_57 : decode cX0_write 57 = .ok (.getfield 16, 3) := by decide +kernel
theorem dX0_write_60 : decode cX0_write 60 = .ok (.iload 5, 2) := by decide +kernel
theorem dX0_write_62 : decode cX0_write 62 = .ok (.iaload, 1) := by decide +kernel
theorem dX0_write_63 : decode cX0_write 63 = .ok (.istore 6, 2) := by decide +kernel
theorem dX0_write_65 : decode cX0_write 65 = .ok (.aload_n 0, 1) := by decide +kernel
theorem dX0_write_66 : decode cX0_write 66 = .ok (.getfield 16, 3) := by decide +kernel
theorem dX0_write_69 : decode cX0_write 69 = .ok (.iload 5, 2) := by decide +kernel
theorem dX0_write_71 : decode cX0_write 71 = .ok (.iload_n 3, 1) := by decide +kernel
theorem dX0_write_72 : decode cX0_write 72 = .ok (.iastore, 1) := by decide +kernel
theorem dX0_write_73 : decode cX0_write 73 = .ok (.aload_n 0, 1) := by decide +kernel
theorem dX0_write_74 : decode cX0_write 74 = .ok (.getfield 23, 3) := by decide +kernel
theorem dX0_write_77 : decode cX0_write 77 = .ok (.iload_n 1, 1) := by decide +kernel
theorem dX0_write_78 : decode cX0_write 78 = .ok (.aload_n 0, 1) := by decide +kernel
theorem dX0_write_79 : decode cX0_write 79 = .ok (.iload_n 1, 1) := by decide +kernel
theorem dX0_write_80 : decode cX0_write 80 = .ok (.invokevirtual 41, 3) := by decide +kernel
theorem dX0_write_83 : decode cX0_write 83 = .ok (.iastore, 1) := by decide +kernel
theorem dX0_write_84 : decode cX0_write 84 = .ok (.iconst 0, 1) := by decide +kernel
theorem dX0_write_85 : decode cX0_write 85 = .ok (.istore 7, 2) := by decide +kernel
theorem dX0_write_87 : decode cX0_write 87 = .ok (.iload 7, 2) := by decide +kernel
theorem dX0_write_89 : decode cX0_write 89 = .ok (.aload_n 0, 1) := by decide +kernel
theorem dX0_write_90 : decode cX0_write 90 = .ok (.getfield 59, 3) := by decide +kernel
theorem dX0_write_93 : decode cX0_write 93 = .ok (.if_icmp .ge 43, 3) := by decide +kernel
theorem dX0_write_96 : decode cX0_write 96 = .ok (.aload_n 0, 1) := by decide +kernel
theorem dX0_write_97 : decode cX0_write 97 = .ok (.iload 7, 2) := by decide +kernel
theorem dX0_write_99 : decode cX0_write 99 = .ok (.iload_n 1, 1) := by decide +kernel
theorem dX0_write_100 : decode cX0_write 100 = .ok (.invokevirtual 63, 3) := by decide +kernel
theorem dX0_write_103 : decode cX0_write 103 = .ok (.istore 8, 2) := by decide +kernel
theorem dX0_write_105 : decode cX0_write 105 = .ok (.aload_n 0, 1) := by decide +kernel
theorem dX0_write_106 : decode cX0_write 106 = .ok (.getfield 26, 3) := by decide +kernel
theorem dX0_write_109 : decode cX0_write 109 = .ok (.iload 7, 2) := by decide +kernel
theorem dX0_write_111 : decode cX0_write 111 = .ok (.bipush 8, 2) := by decide +kernel
theorem dX0_write_113 : decode cX0_write 113 = .ok (.imul, 1) := by decide +kernel
theorem dX0_write_114 : decode cX0_write 114 = .ok (.iload_n 2, 1) := by decide +kernel
theorem dX0_write_115 : decode cX0_write 115 = .ok (.iadd, 1) := by decide +kernel
theorem dX0_write_116 : decode cX0_write 116 = .ok (.dup2, 1) := by decide +kernel
theorem dX0_write_117 : decode cX0_write 117 = .ok (.iaload, 1) := by decide +kernel
theorem dX0_write_118 : decode cX0_write 118 = .ok (.aload_n 0, 1) := by decide +kernel
theorem dX0_write_119 : decode cX0_write 119 = .ok (.iload 8, 2) := by decide +kernel
theorem dX0_write_121 : decode cX0_write 121 = .ok (.iload 6, 2) := by decide +kernel
theorem dX0_write_123 : decode cX0_write 123 = .ok (.iload_n 3, 1) := by decide +kernel
theorem dX0_write_124 : decode cX0_write 124 = .ok (.ixor, 1) := by decide +kernel
theorem dX0_write_125 : decode cX0_write 125 = .ok (.invokevirtual 67, 3) := by decide +kernel
theorem dX0_write_128 : decode cX0_write 128 = .ok (.ixor, 1) := by decide +kernel
theorem dX0_write_129 : decode cX0_write 129 = .ok (.iastore, 1) := by decide +kernel
theorem dX0_write_130 : decode cX0_write 130 = .ok (.iinc 7 1, 3) := by decide +kernel
theorem dX0_write_133 : decode cX0_write 133 = .ok (.goto (-46), 3) := by decide +kernel
theorem dX0_write_136 : decode cX0_write 136 = .ok (.iload 6, 2) := by decide +kernel
theorem dX0_write_138 : decode cX0_write 138 = .ok (.ireturn, 1) := by decide +kernel
theorem dX0_badBlock_0 : decode cX0_badBlock 0 = .ok (.iload_n 0, 1) := by decide +kernel
theorem dX0_badBlock_1 : decode cX0_badBlock 1 = .ok (.ifCond .lt 9, 3) := by decide +kernel
theorem dX0_badBlock_4 : decode cX0_badBlock 4 = .ok (.iload_n 0, 1) := by decide +kernel
theorem dX0_badBlock_5 : decode cX0_badBlock 5 = .ok (.bipush 6, 2) := by decide +kernel
theorem dX0_badBlock_7 : decode cX0_badBlock 7 = .ok (.if_icmp .lt 7, 3) := by decide +kernel
theorem dX0_badBlock_10 : decode cX0_badBlock 10 = .ok (.iconst 1, 1) := by decide +kernel
theorem dX0_badBlock_11 : decode cX0_badBlock 11 = .ok (.goto 4, 3) := by decide +kernel
theorem dX0_badBlock_14 : decode cX0_badBlock 14 = .ok (.iconst 0, 1) := by decide +kernel
theorem dX0_badBlock_15 : decode cX0_badBlock 15 = .ok (.ireturn, 1) := by decide +kernel
theorem dX0_badPlace_0 : decode cX0_badPlace 0 = .ok (.iload_n 0, 1) := by decide +kernel
theorem dX0_badPlace_1 : decode cX0_badPlace 1 = .ok (.ifCond .lt 9, 3) := by decide +kernel
theorem dX0_badPlace_4 : decode cX0_badPlace 4 = .ok (.iload_n 0, 1) := by decide +kernel
theorem dX0_badPlace_5 : decode cX0_badPlace 5 = .ok (.bipush 8, 2) := by decide +kernel
theorem dX0_badPlace_7 : decode cX0_badPlace 7 = .ok (.if_icmp .lt 7, 3) := by decide +kernel
theorem dX0_badPlace_10 : decode cX0_badPlace 10 = .ok (.iconst 1, 1) := by decide +kernel
theorem dX0_badPlace_11 : decode cX0_badPlace 11 = .ok (.goto 4, 3) := by decide +kernel
theorem dX0_badPlace_14 : decode cX0_badPlace 14 = .ok (.iconst 0, 1) := by decide +kernel
theorem dX0_badPlace_15 : decode cX0_badPlace 15 = .ok (.ireturn, 1) := by decide +kernel
theorem dX0_stateOf_0 : decode cX0_stateOf 0 = .ok (.aload_n 0, 1) := by decide +kernel
theorem dX0_stateOf_1 : decode cX0_stateOf 1 = .ok (.getfield 19, 3) := by decide +kernel
theorem dX0_stateOf_4 : decode cX0_stateOf 4 = .ok (.iload_n 1, 1) := by decide +kernel
theorem dX0_stateOf_5 : decode cX0_stateOf 5 = .ok (.baload, 1) := by decide +kernel
theorem dX0_stateOf_6 : decode cX0_stateOf 6 = .ok (.ifCond .ne 5, 3) := by decide +kernel
theorem dX0_stateOf_9 : decode cX0_stateOf 9 = .ok (.iconst 1, 1) := by decide +kernel
theorem dX0_stateOf_10 : decode cX0_stateOf 10 = .ok (.ireturn, 1) := by decide +kernel
theorem dX0_stateOf_11 : decode cX0_stateOf 11 = .ok (.aload_n 0, 1) := by decide +kernel
theorem dX0_stateOf_12 : decode cX0_stateOf 12 = .ok (.iload_n 1, 1) := by decide +kernel
theorem dX0_stateOf_13 : decode cX0_stateOf 13 = .ok (.invokevirtual 41, 3) := by decide +kernel
theorem dX0_stateOf_16 : decode cX0_stateOf 16 = .ok (.istore_n 2, 1) := by decide +kernel
theorem dX0_stateOf_17 : decode cX0_stateOf 17 = .ok (.iload_n 2, 1) := by decide +kernel
theorem dX0_stateOf_18 : decode cX0_stateOf 18 = .ok (.aload_n 0, 1) := by decide +kernel
theorem dX0_stateOf_19 : decode cX0_stateOf 19 = .ok (.getfield 23, 3) := by decide +kernel
theorem dX0_stateOf_22 : decode cX0_stateOf 22 = .ok (.iload_n 1, 1) := by decide +kernel
theorem dX0_stateOf_23 : decode cX0_stateOf 23 = .ok (.iaload, 1) := by decide +kernel
theorem dX0_stateOf_24 : decode cX0_stateOf 24 = .ok (.if_icmp .ne 7, 3) := by decide +kernel
theorem dX0_stateOf_27 : decode cX0_stateOf 27 = .ok (.iconst 0, 1) := by decide +kernel
theorem dX0_stateOf_28 : decode cX0_stateOf 28 = .ok (.goto 4, 3) := by decide +kernel
theorem dX0_stateOf_31 : decode cX0_stateOf 31 = .ok (.iconst 2, 1) := by decide +kernel
theorem dX0_stateOf_32 : decode cX0_stateOf 32 = .ok (.ireturn, 1) := by decide +kernel
theorem dX0_factor_0 : decode cX0_factor 0 = .ok (.aload_n 0, 1) := by decide +kernel
theorem dX0_factor_1 : decode cX0_factor 1 = .ok (.bipush 8, 2) := by decide +kernel
theorem dX0_factor_3 : decode cX0_factor 3 = .ok (.iload_n 1, 1) := by decide +kernel
theorem dX0_factor_4 : decode cX0_factor 4 = .ok (.iadd, 1) := by decide +kernel
theorem dX0_factor_5 : decode cX0_factor 5 = .ok (.iload_n 2, 1) := by decide +kernel
theorem dX0_factor_6 : decode cX0_factor 6 = .ok (.ixor, 1) := by decide +kernel
theorem dX0_factor_7 : decode cX0_factor 7 = .ok (.invokevirtual 45, 3) := by decide +kernel
theorem dX0_factor_10 : decode cX0_factor 10 = .ok (.ireturn, 1) := by decide +kernel
theorem dX0_inverse_0 : decode cX0_inverse 0 = .ok (.aload_n 0, 1) := by decide +kernel
theorem dX0_inverse_1 : decode cX0_inverse 1 = .ok (.getfield 7, 3) := by decide +kernel
theorem dX0_inverse_4 : decode cX0_inverse 4 = .ok (.sipush 255, 3) := by decide +kernel
theorem dX0_inverse_7 : decode cX0_inverse 7 = .ok (.aload_n 0, 1) := by decide +kernel
theorem dX0_inverse_8 : decode cX0_inverse 8 = .ok (.getfield 13, 3) := by decide +kernel
theorem dX0_inverse_11 : decode cX0_inverse 11 = .ok (.iload_n 1, 1) := by decide +kernel
theorem dX0_inverse_12 : decode cX0_inverse 12 = .ok (.iaload, 1) := by decide +kernel
theorem dX0_inverse_13 : decode cX0_inverse 13 = .ok (.isub, 1) := by decide +kernel
theorem dX0_inverse_14 : decode cX0_inverse 14 = .ok (.sipush 255, 3) := by decide +kernel
theorem dX0_inverse_17 : decode cX0_inverse 17 = .ok (.irem, 1) := by decide +kernel
theorem dX0_inverse_18 : decode cX0_inverse 18 = .ok (.iaload, 1) := by decide +kernel
theorem dX0_inverse_19 : decode cX0_inverse 19 = .ok (.ireturn, 1) := by decide +kernel
theorem dX0_times_0 : decode cX0_times 0 = .ok (.iload_n 1, 1) := by decide +kernel
theorem dX0_times_1 : decode cX0_times 1 = .ok (.ifCond .eq 7, 3) := by decide +kernel
theorem dX0_times_4 : decode cX0_times 4 = .ok (.iload_n 2, 1) := by decide +kernel
theorem dX0_times_5 : decode cX0_times 5 = .ok (.ifCond .ne 5, 3) := by decide +kernel
theorem dX0_times_8 : decode cX0_times 8 = .ok (.iconst 0, 1) := by decide +kernel
theorem dX0_times_9 : decode cX0_times 9 = .ok (.ireturn, 1) := by decide +kernel
theorem dX0_times_10 : decode cX0_times 10 = .ok (.aload_n 0, 1) := by decide +kernel
theorem dX0_times_11 : decode cX0_times 11 = .ok (.getfield 7, 3) := by decide +kernel
theorem dX0_times_14 : decode cX0_times 14 = .ok (.aload_n 0, 1) := by decide +kernel
theorem dX0_times_15 : decode cX0_times 15 = .ok (.getfield 13, 3) := by decide +kernel
theorem dX0_times_18 : decode cX0_times 18 = .ok (.iload_n 1, 1) := by decide +kernel
theorem dX0_times_19 : decode cX0_times 19 = .ok (.iaload, 1) := by decide +kernel
theorem dX0_times_20 : decode cX0_times 20 = .ok (.aload_n 0, 1) := by decide +kernel
theorem dX0_times_21 : decode cX0_times 21 = .ok (.getfield 13, 3) := by decide +kernel
theorem dX0_times_24 : decode cX0_times 24 = .ok (.iload_n 2, 1) := by decide +kernel
theorem dX0_times_25 : decode cX0_times 25 = .ok (.iaload, 1) := by decide +kernel
theorem dX0_times_26 : decode cX0_times 26 = .ok (.iadd, 1) := by decide +kernel
theorem dX0_times_27 : decode cX0_times 27 = .ok (.sipush 255, 3) := by decide +kernel
theorem dX0_times_30 : decode cX0_times 30 = .ok (.irem, 1) := by decide +kernel
theorem dX0_times_31 : decode cX0_times 31 = .ok (.iaload, 1) := by decide +kernel
theorem dX0_times_32 : decode cX0_times 32 = .ok (.ireturn, 1) := by decide +kernel
theorem dX0_protect_0 : decode cX0_protect 0 = .ok (.iload_n 1, 1) := by decide +kernel
theorem dX0_protect_1 : decode cX0_protect 1 = .ok (.ifCond .lt 8, 3) := by decide +kernel
theorem dX0_protect_4 : decode cX0_protect 4 = .ok (.iload_n 1, 1) := by decide +kernel
theorem dX0_protect_5 : decode cX0_protect 5 = .ok (.iconst 4, 1) := by decide +kernel
theorem dX0_protect_6 : decode cX0_protect 6 = .ok (.if_icmp .le 6, 3) := by decide +kernel
theorem dX0_protect_9 : decode cX0_protect 9 = .ok (.bipush (-3), 2) := by decide +kernel
theorem dX0_protect_11 : decode cX0_protect 11 = .ok (.ireturn, 1) := by decide +kernel
theorem dX0_protect_12 : decode cX0_protect 12 = .ok (.aload_n 0, 1) := by decide +kernel
theorem dX0_protect_13 : decode cX0_protect 13 = .ok (.invokevirtual 70, 3) := by decide +kernel
theorem dX0_protect_16 : decode cX0_protect 16 = .ok (.istore_n 2, 1) := by decide +kernel
theorem dX0_protect_17 : decode cX0_protect 17 = .ok (.iload_n 2, 1) := by decide +kernel
theorem dX0_protect_18 : decode cX0_protect 18 = .ok (.ifCond .le 6, 3) := by decide +kernel
theorem dX0_protect_21 : decode cX0_protect 21 = .ok (.bipush (-4), 2) := by decide +kernel
theorem dX0_protect_23 : decode cX0_protect 23 = .ok (.ireturn, 1) := by decide +kernel
theorem dX0_protect_24 : decode cX0_protect 24 = .ok (.aload_n 0, 1) := by decide +kernel
theorem dX0_protect_25 : decode cX0_protect 25 = .ok (.iload_n 1, 1) := by decide +kernel
theorem dX0_protect_26 : decode cX0_protect 26 = .ok (.putfield 59, 3) := by decide +kernel
theorem dX0_protect_29 : decode cX0_protect 29 = .ok (.iconst 0, 1) := by decide +kernel
theorem dX0_protect_30 : decode cX0_protect 30 = .ok (.istore_n 3, 1) := by decide +kernel
theorem dX0_protect_31 : decode cX0_protect 31 = .ok (.iload_n 3, 1) := by decide +kernel
theorem dX0_protect_32 : decode cX0_protect 32 = .ok (.iload_n 1, 1) := by decide +kernel
theorem dX0_protect_33 : decode cX0_protect 33 = .ok (.if_icmp .ge 14, 3) := by decide +kernel
theorem dX0_protect_36 : decode cX0_protect 36 = .ok (.aload_n 0, 1) := by decide +kernel
theorem dX0_protect_37 : decode cX0_protect 37 = .ok (.iload_n 3, 1) := by decide +kernel
theorem dX0_protect_38 : decode cX0_protect 38 = .ok (.invokevirtual 74, 3) := by decide +kernel
theorem dX0_protect_41 : decode cX0_protect 41 = .ok (.iinc 3 1, 3) := by decide +kernel
theorem dX0_protect_44 : decode cX0_protect 44 = .ok (.goto (-13), 3) := by decide +kernel
theorem dX0_protect_47 : decode cX0_protect 47 = .ok (.iload_n 1, 1) := by decide +kernel
theorem dX0_protect_48 : decode cX0_protect 48 = .ok (.ireturn, 1) := by decide +kernel
theorem dX0_badBlocks_0 : decode cX0_badBlocks 0 = .ok (.iconst 0, 1) := by decide +kernel
theorem dX0_badBlocks_1 : decode cX0_badBlocks 1 = .ok (.istore_n 1, 1) := by decide +kernel
theorem dX0_badBlocks_2 : decode cX0_badBlocks 2 = .ok (.iconst 0, 1) := by decide +kernel
theorem dX0_badBlocks_3 : decode cX0_badBlocks 3 = .ok (.istore_n 2, 1) := by decide +kernel
theorem dX0_badBlocks_4 : decode cX0_badBlocks 4 = .ok (.iload_n 2, 1) := by decide +kernel
theorem dX0_badBlocks_5 : decode cX0_badBlocks 5 = .ok (.bipush 6, 2) := by decide +kernel
theorem dX0_badBlocks_7 : decode cX0_badBlocks 7 = .ok (.if_icmp .ge 22, 3) := by decide +kernel
theorem dX0_badBlocks_10 : decode cX0_badBlocks 10 = .ok (.aload_n 0, 1) := by decide +kernel
theorem dX0_badBlocks_11 : decode cX0_badBlocks 11 = .ok (.iload_n 2, 1) := by decide +kernel
theorem dX0_badBlocks_12 : decode cX0_badBlocks 12 = .ok (.invokevirtual 56, 3) := by decide +kernel
theorem dX0_badBlocks_15 : decode cX0_badBlocks 15 = .ok (.istore_n 3, 1) := by decide +kernel
theorem dX0_badBlocks_16 : decode cX0_badBlocks 16 = .ok (.iload_n 3, 1) := by decide +kernel
theorem dX0_badBlocks_17 : decode cX0_badBlocks 17 = .ok (.ifCond .eq 6, 3) := by decide +kernel
theorem dX0_badBlocks_20 : decode cX0_badBlocks 20 = .ok (.iinc 1 1, 3) := by decide +kernel
theorem dX0_badBlocks_23 : decode cX0_badBlocks 23 = .ok (.iinc 2 1, 3) := by decide +kernel
theorem dX0_badBlocks_26 : decode cX0_badBlocks 26 = .ok (.goto (-22), 3) := by decide +kernel
theorem dX0_badBlocks_29 : decode cX0_badBlocks 29 = .ok (.iload_n 1, 1) := by decide +kernel
theorem dX0_badBlocks_30 : decode cX0_badBlocks 30 = .ok (.ireturn, 1) := by decide +kernel
theorem dX0_makeRecovery_0 : decode cX0_makeRecovery 0 = .ok (.aload_n 0, 1) := by decide +kernel
theorem dX0_makeRecovery_1 : decode cX0_makeRecovery 1 = .ok (.getfield 29, 3) := by decide +kernel
theorem dX0_makeRecovery_4 : decode cX0_makeRecovery 4 = .ok (.iload_n 1, 1) := by decide +kernel
theorem dX0_makeRecovery_5 : decode cX0_makeRecovery 5 = .ok (.iconst 1, 1) := by decide +kernel
theorem dX0_makeRecovery_6 : decode cX0_makeRecovery 6 = .ok (.bastore, 1) := by decide +kernel
theorem dX0_makeRecovery_7 : decode cX0_makeRecovery 7 = .ok (.iconst 0, 1) := by decide +kernel
theorem dX0_makeRecovery_8 : decode cX0_makeRecovery 8 = .ok (.istore_n 2, 1) := by decide +kernel
theorem dX0_makeRecovery_9 : decode cX0_makeRecovery 9 = .ok (.iload_n 2, 1) := by decide +kernel
theorem dX0_makeRecovery_10 : decode cX0_makeRecovery 10 = .ok (.bipush 8, 2) := by decide +kernel
theorem dX0_makeRecovery_12 : decode cX0_makeRecovery 12 = .ok (.if_icmp .ge 69, 3) := by decide +kernel
theorem dX0_makeRecovery_15 : decode cX0_makeRecovery 15 = .ok (.iconst 0, 1) := by decide +kernel
theorem dX0_makeRecovery_16 : decode cX0_makeRecovery 16 = .ok (.istore_n 3, 1) := by decide +kernel
theorem dX0_makeRecovery_17 : decode cX0_makeRecovery 17 = .ok (.iconst 0, 1) := by decide +kernel
theorem dX0_makeRecovery_18 : decode cX0_makeRecovery 18 = .ok (.istore 4, 2) := by decide +kernel
theorem dX0_makeRecovery_20 : decode cX0_makeRecovery 20 = .ok (.iload 4, 2) := by decide +kernel
theorem dX0_makeRecovery_22 : decode cX0_makeRecovery 22 = .ok (.bipush 6, 2) := by decide +kernel
theorem dX0_makeRecovery_24 : decode cX0_makeRecovery 24 = .ok (.if_icmp .ge 39, 3) := by decide +kernel
theorem dX0_makeRecovery_27 : decode cX0_makeRecovery 27 = .ok (.aload_n 0, 1) := by decide +kernel
theorem dX0_makeRecovery_28 : decode cX0_makeRecovery 28 = .ok (.iload_n 1, 1) := by decide +kernel
theorem dX0_makeRecovery_29 : decode cX0_makeRecovery 29 = .ok (.iload 4, 2) := by decide +kernel
theorem dX0_makeRecovery_31 : decode cX0_makeRecovery 31 = .ok (.invokevirtual 63, 3) := by decide +kernel
theorem dX0_makeRecovery_34 : decode cX0_makeRecovery 34 = .ok (.istore 5, 2) := by decide +kernel
theorem dX0_makeRecovery_36 : decode cX0_makeRecovery 36 = .ok (.iload_n 3, 1) := by decide +kernel
theorem dX0_makeRecovery_37 : decode cX0_makeRecovery 37 = .ok (.aload_n 0, 1) := by decide +kernel
theorem dX0_makeRecovery_38 : decode cX0_makeRecovery 38 = .ok (.iload 5, 2) := by decide +kernel
theorem dX0_makeRecovery_40 : decode cX0_makeRecovery 40 = .ok (.aload_n 0, 1) := by decide +kernel
theorem dX0_makeRecovery_41 : decode cX0_makeRecovery 41 = .ok (.getfield 16, 3) := by decide +kernel
theorem dX0_makeRecovery_44 : decode cX0_makeRecovery 44 = .ok (.iload 4, 2) := by decide +kernel
theorem dX0_makeRecovery_46 : decode cX0_makeRecovery 46 = .ok (.bipush 8, 2) := by decide +kernel
theorem dX0_makeRecovery_48 : decode cX0_makeRecovery 48 = .ok (.imul, 1) := by decide +kernel
theorem dX0_makeRecovery_49 : decode cX0_makeRecovery 49 = .ok (.iload_n 2, 1) := by decide +kernel
theorem dX0_makeRecovery_50 : decode cX0_makeRecovery 50 = .ok (.iadd, 1) := by decide +kernel
theorem dX0_makeRecovery_51 : decode cX0_makeRecovery 51 = .ok (.iaload, 1) := by decide +kernel
theorem dX0_makeRecovery_52 : decode cX0_makeRecovery 52 = .ok (.invokevirtual 67, 3) := by decide +kernel
theorem dX0_makeRecovery_55 : decode cX0_makeRecovery 55 = .ok (.ixor, 1) := by decide +kernel
theorem dX0_makeRecovery_56 : decode cX0_makeRecovery 56 = .ok (.istore_n 3, 1) := by decide +kernel
theorem dX0_makeRecovery_57 : decode cX0_makeRecovery 57 = .ok (.iinc 4 1, 3) := by decide +kernel
theorem dX0_makeRecovery_60 : decode cX0_makeRecovery 60 = .ok (.goto (-40), 3) := by decide +kernel
theorem dX0_makeRecovery_63 : decode cX0_makeRecovery 63 = .ok (.aload_n 0, 1) := by decide +kernel
theorem dX0_makeRecovery_64 : decode cX0_makeRecovery 64 = .ok (.getfield 26, 3) := by decide +kernel
theorem dX0_makeRecovery_67 : decode cX0_makeRecovery 67 = .ok (.iload_n 1, 1) := by decide +kernel
theorem dX0_makeRecovery_68 : decode cX0_makeRecovery 68 = .ok (.bipush 8, 2) := by decide +kernel
theorem dX0_makeRecovery_70 : decode cX0_makeRecovery 70 = .ok (.imul, 1) := by decide +kernel
theorem dX0_makeRecovery_71 : decode cX0_makeRecovery 71 = .ok (.iload_n 2, 1) := by decide +kernel
theorem dX0_makeRecovery_72 : decode cX0_makeRecovery 72 = .ok (.iadd, 1) := by decide +kernel
theorem dX0_makeRecovery_73 : decode cX0_makeRecovery 73 = .ok (.iload_n 3, 1) := by decide +kernel
theorem dX0_makeRecovery_74 : decode cX0_makeRecovery 74 = .ok (.iastore, 1) := by decide +kernel
theorem dX0_makeRecovery_75 : decode cX0_makeRecovery 75 = .ok (.iinc 2 1, 3) := by decide +kernel
theorem dX0_makeRecovery_78 : decode cX0_makeRecovery 78 = .ok (.goto (-69), 3) := by decide +kernel
theorem dX0_makeRecovery_81 : decode cX0_makeRecovery 81 = .ok (.return_, 1) := by decide +kernel
theorem dX0_lose_0 : decode cX0_lose 0 = .ok (.iload_n 1, 1) := by decide +kernel
theorem dX0_lose_1 : decode cX0_lose 1 = .ok (.invokestatic 49, 3) := by decide +kernel
theorem dX0_lose_4 : decode cX0_lose 4 = .ok (.ifCond .eq 5, 3) := by decide +kernel
theorem dX0_lose_7 : decode cX0_lose 7 = .ok (.iconst (-1), 1) := by decide +kernel
theorem dX0_lose_8 : decode cX0_lose 8 = .ok (.ireturn, 1) := by decide +kernel
theorem dX0_lose_9 : decode cX0_lose 9 = .ok (.aload_n 0, 1) := by decide +kernel
theorem dX0_lose_10 : decode cX0_lose 10 = .ok (.iload_n 1, 1) := by decide +kernel
theorem dX0_lose_11 : decode cX0_lose 11 = .ok (.invokevirtual 56, 3) := by decide +kernel
theorem dX0_lose_14 : decode cX0_lose 14 = .ok (.istore_n 2, 1) := by decide +kernel
theorem dX0_lose_15 : decode cX0_lose 15 = .ok (.aload_n 0, 1) := by decide +kernel
theorem dX0_lose_16 : decode cX0_lose 16 = .ok (.getfield 19, 3) := by decide +kernel
theorem dX0_lose_19 : decode cX0_lose 19 = .ok (.iload_n 1, 1) := by decide +kernel
theorem dX0_lose_20 : decode cX0_lose 20 = .ok (.iconst 0, 1) := by decide +kernel
theorem dX0_lose_21 : decode cX0_lose 21 = .ok (.bastore, 1) := by decide +kernel
theorem dX0_lose_22 : decode cX0_lose 22 = .ok (.iload_n 2, 1) := by decide +kernel
theorem dX0_lose_23 : decode cX0_lose 23 = .ok (.ireturn, 1) := by decide +kernel
theorem dX0_loseRecovery_0 : decode cX0_loseRecovery 0 = .ok (.iload_n 1, 1) := by decide +kernel
theorem dX0_loseRecovery_1 : decode cX0_loseRecovery 1 = .ok (.ifCond .lt 11, 3) := by decide +kernel
theorem dX0_loseRecovery_4 : decode cX0_loseRecovery 4 = .ok (.iload_n 1, 1) := by decide +kernel
theorem dX0_loseRecovery_5 : decode cX0_loseRecovery 5 = .ok (.aload_n 0, 1) := by decide +kernel
theorem dX0_loseRecovery_6 : decode cX0_loseRecovery 6 = .ok (.getfield 59, 3) := by decide +kernel
theorem dX0_loseRecovery_9 : decode cX0_loseRecovery 9 = .ok (.if_icmp .lt 6, 3) := by decide +kernel
theorem dX0_loseRecovery_12 : decode cX0_loseRecovery 12 = .ok (.bipush (-5), 2) := by decide +kernel
theorem dX0_loseRecovery_14 : decode cX0_loseRecovery 14 = .ok (.ireturn, 1) := by decide +kernel
theorem dX0_loseRecovery_15 : decode cX0_loseRecovery 15 = .ok (.aload_n 0, 1) := by decide +kernel
theorem dX0_loseRecovery_16 : decode cX0_loseRecovery 16 = .ok (.getfield 29, 3) := by decide +kernel
theorem dX0_loseRecovery_19 : decode cX0_loseRecovery 19 = .ok (.iload_n 1, 1) := by decide +kernel
theorem dX0_loseRecovery_20 : decode cX0_loseRecovery 20 = .ok (.baload, 1) := by decide +kernel
theorem dX0_loseRecovery_21 : decode cX0_loseRecovery 21 = .ok (.ifCond .eq 7, 3) := by decide +kernel
theorem dX0_loseRecovery_24 : decode cX0_loseRecovery 24 = .ok (.iconst 0, 1) := by decide +kernel
theorem dX0_loseRecovery_25 : decode cX0_loseRecovery 25 = .ok (.goto 4, 3) := by decide +kernel
theorem dX0_loseRecovery_28 : decode cX0_loseRecovery 28 = .ok (.iconst 1, 1) := by decide +kernel
theorem dX0_loseRecovery_29 : decode cX0_loseRecovery 29 = .ok (.istore_n 2, 1) := by decide +kernel
theorem dX0_loseRecovery_30 : decode cX0_loseRecovery 30 = .ok (.aload_n 0, 1) := by decide +kernel
theorem dX0_loseRecovery_31 : decode cX0_loseRecovery 31 = .ok (.getfield 29, 3) := by decide +kernel
theorem dX0_loseRecovery_34 : decode cX0_loseRecovery 34 = .ok (.iload_n 1, 1) := by decide +kernel
theorem dX0_loseRecovery_35 : decode cX0_loseRecovery 35 = .ok (.iconst 0, 1) := by decide +kernel
theorem dX0_loseRecovery_36 : decode cX0_loseRecovery 36 = .ok (.bastore, 1) := by decide +kernel
theorem dX0_loseRecovery_37 : decode cX0_loseRecovery 37 = .ok (.iload_n 2, 1) := by decide +kernel
theorem dX0_loseRecovery_38 : decode cX0_loseRecovery 38 = .ok (.ireturn, 1) := by decide +kernel
theorem dX0_spoil_0 : decode cX0_spoil 0 = .ok (.iload_n 1, 1) := by decide +kernel
theorem dX0_spoil_1 : decode cX0_spoil 1 = .ok (.invokestatic 49, 3) := by decide +kernel
theorem dX0_spoil_4 : decode cX0_spoil 4 = .ok (.ifCond .eq 5, 3) := by decide +kernel
theorem dX0_spoil_7 : decode cX0_spoil 7 = .ok (.iconst (-1), 1) := by decide +kernel
theorem dX0_spoil_8 : decode cX0_spoil 8 = .ok (.ireturn, 1) := by decide +kernel
theorem dX0_spoil_9 : decode cX0_spoil 9 = .ok (.iload_n 2, 1) := by decide +kernel
theorem dX0_spoil_10 : decode cX0_spoil 10 = .ok (.invokestatic 53, 3) := by decide +kernel
theorem dX0_spoil_13 : decode cX0_spoil 13 = .ok (.ifCond .eq 6, 3) := by decide +kernel
theorem dX0_spoil_16 : decode cX0_spoil 16 = .ok (.bipush (-2), 2) := by decide +kernel
theorem dX0_spoil_18 : decode cX0_spoil 18 = .ok (.ireturn, 1) := by decide +kernel
theorem dX0_spoil_19 : decode cX0_spoil 19 = .ok (.aload_n 0, 1) := by decide +kernel
theorem dX0_spoil_20 : decode cX0_spoil 20 = .ok (.iload_n 1, 1) := by decide +kernel
theorem dX0_spoil_21 : decode cX0_spoil 21 = .ok (.invokevirtual 56, 3) := by decide +kernel
theorem dX0_spoil_24 : decode cX0_spoil 24 = .ok (.istore 4, 2) := by decide +kernel
theorem dX0_spoil_26 : decode cX0_spoil 26 = .ok (.iload 4, 2) := by decide +kernel
theorem dX0_spoil_28 : decode cX0_spoil 28 = .ok (.ifCond .eq 6, 3) := by decide +kernel
theorem dX0_spoil_31 : decode cX0_spoil 31 = .ok (.bipush (-4), 2) := by decide +kernel
theorem dX0_spoil_33 : decode cX0_spoil 33 = .ok (.ireturn, 1) := by decide +kernel
theorem dX0_spoil_34 : decode cX0_spoil 34 = .ok (.aload_n 0, 1) := by decide +kernel
theorem dX0_spoil_35 : decode cX0_spoil 35 = .ok (.getfield 16, 3) := by decide +kernel
theorem dX0_spoil_38 : decode cX0_spoil 38 = .ok (.iload_n 1, 1) := by decide +kernel
theorem dX0_spoil_39 : decode cX0_spoil 39 = .ok (.bipush 8, 2) := by decide +kernel
theorem dX0_spoil_41 : decode cX0_spoil 41 = .ok (.imul, 1) := by decide +kernel
theorem dX0_spoil_42 : decode cX0_spoil 42 = .ok (.iload_n 2, 1) := by decide +kernel
theorem dX0_spoil_43 : decode cX0_spoil 43 = .ok (.iadd, 1) := by decide +kernel
theorem dX0_spoil_44 : decode cX0_spoil 44 = .ok (.dup2, 1) := by decide +kernel
theorem dX0_spoil_45 : decode cX0_spoil 45 = .ok (.iaload, 1) := by decide +kernel
theorem dX0_spoil_46 : decode cX0_spoil 46 = .ok (.iload_n 3, 1) := by decide +kernel
theorem dX0_spoil_47 : decode cX0_spoil 47 = .ok (.sipush 255, 3) := by decide +kernel
theorem dX0_spoil_50 : decode cX0_spoil 50 = .ok (.iand, 1) := by decide +kernel
theorem dX0_spoil_51 : decode cX0_spoil 51 = .ok (.ixor, 1) := by decide +kernel
theorem dX0_spoil_52 : decode cX0_spoil 52 = .ok (.iastore, 1) := by decide +kernel
theorem dX0_spoil_53 : decode cX0_spoil 53 = .ok (.aload_n 0, 1) := by decide +kernel
theorem dX0_spoil_54 : decode cX0_spoil 54 = .ok (.iload_n 1, 1) := by decide +kernel
theorem dX0_spoil_55 : decode cX0_spoil 55 = .ok (.invokevirtual 56, 3) := by decide +kernel
theorem dX0_spoil_58 : decode cX0_spoil 58 = .ok (.ireturn, 1) := by decide +kernel
theorem dX0_repair_0 : decode cX0_repair 0 = .ok (.aload_n 0, 1) := by decide +kernel
theorem dX0_repair_1 : decode cX0_repair 1 = .ok (.invokevirtual 91, 3) := by decide +kernel
theorem dX0_repair_4 : decode cX0_repair 4 = .ok (.aload_n 0, 1) := by decide +kernel
theorem dX0_repair_5 : decode cX0_repair 5 = .ok (.invokevirtual 94, 3) := by decide +kernel
theorem dX0_repair_8 : decode cX0_repair 8 = .ok (.istore_n 1, 1) := by decide +kernel
theorem dX0_repair_9 : decode cX0_repair 9 = .ok (.aload_n 0, 1) := by decide +kernel
theorem dX0_repair_10 : decode cX0_repair 10 = .ok (.getfield 78, 3) := by decide +kernel
theorem dX0_repair_13 : decode cX0_repair 13 = .ok (.iload_n 1, 1) := by decide +kernel
theorem dX0_repair_14 : decode cX0_repair 14 = .ok (.if_icmp .le 6, 3) := by decide +kernel
theorem dX0_repair_17 : decode cX0_repair 17 = .ok (.bipush (-6), 2) := by decide +kernel
theorem dX0_repair_19 : decode cX0_repair 19 = .ok (.ireturn, 1) := by decide +kernel
theorem dX0_repair_20 : decode cX0_repair 20 = .ok (.aload_n 0, 1) := by decide +kernel
theorem dX0_repair_21 : decode cX0_repair 21 = .ok (.invokevirtual 97, 3) := by decide +kernel
theorem dX0_repair_24 : decode cX0_repair 24 = .ok (.iconst 0, 1) := by decide +kernel
theorem dX0_repair_25 : decode cX0_repair 25 = .ok (.istore_n 2, 1) := by decide +kernel
theorem dX0_repair_26 : decode cX0_repair 26 = .ok (.iload_n 2, 1) := by decide +kernel
theorem dX0_repair_27 : decode cX0_repair 27 = .ok (.aload_n 0, 1) := by decide +kernel
theorem dX0_repair_28 : decode cX0_repair 28 = .ok (.getfield 78, 3) := by decide +kernel
theorem dX0_repair_31 : decode cX0_repair 31 = .ok (.if_icmp .ge 14, 3) := by decide +kernel
theorem dX0_repair_34 : decode cX0_repair 34 = .ok (.aload_n 0, 1) := by decide +kernel
theorem dX0_repair_35 : decode cX0_repair 35 = .ok (.iload_n 2, 1) := by decide +kernel
theorem dX0_repair_36 : decode cX0_repair 36 = .ok (.invokevirtual 100, 3) := by decide +kernel
theorem dX0_repair_39 : decode cX0_repair 39 = .ok (.iinc 2 1, 3) := by decide +kernel
theorem dX0_repair_42 : decode cX0_repair 42 = .ok (.goto (-16), 3) := by decide +kernel
theorem dX0_repair_45 : decode cX0_repair 45 = .ok (.iconst 0, 1) := by decide +kernel
theorem dX0_repair_46 : decode cX0_repair 46 = .ok (.istore_n 2, 1) := by decide +kernel
theorem dX0_repair_47 : decode cX0_repair 47 = .ok (.iload_n 2, 1) := by decide +kernel
theorem dX0_repair_48 : decode cX0_repair 48 = .ok (.aload_n 0, 1) := by decide +kernel
theorem dX0_repair_49 : decode cX0_repair 49 = .ok (.getfield 78, 3) := by decide +kernel
theorem dX0_repair_52 : decode cX0_repair 52 = .ok (.if_icmp .ge 14, 3) := by decide +kernel
theorem dX0_repair_55 : decode cX0_repair 55 = .ok (.aload_n 0, 1) := by decide +kernel
theorem dX0_repair_56 : decode cX0_repair 56 = .ok (.iload_n 2, 1) := by decide +kernel
theorem dX0_repair_57 : decode cX0_repair 57 = .ok (.invokevirtual 103, 3) := by decide +kernel
end
section
set_option maxRecDepth 100000
theorem dX0_repair_60 : decode cX0_repair 60 = .ok (.iinc 2 1, 3) := by decide +kernel
theorem dX0_repair_63 : decode cX0_repair 63 = .ok (.goto (-16), 3) := by decide +kernel
theorem dX0_repair_66 : decode cX0_repair 66 = .ok (.iconst 0, 1) := by decide +kernel
theorem dX0_repair_67 : decode cX0_repair 67 = .ok (.istore_n 2, 1) := by decide +kernel
theorem dX0_repair_68 : decode cX0_repair 68 = .ok (.iload_n 2, 1) := by decide +kernel
theorem dX0_repair_69 : decode cX0_repair 69 = .ok (.aload_n 0, 1) := by decide +kernel
theorem dX0_repair_70 : decode cX0_repair 70 = .ok (.getfield 59, 3) := by decide +kernel
theorem dX0_repair_73 : decode cX0_repair 73 = .ok (.if_icmp .ge 14, 3) := by decide +kernel
theorem dX0_repair_76 : decode cX0_repair 76 = .ok (.aload_n 0, 1) := by decide +kernel
theorem dX0_repair_77 : decode cX0_repair 77 = .ok (.iload_n 2, 1) := by decide +kernel
theorem dX0_repair_78 : decode cX0_repair 78 = .ok (.invokevirtual 74, 3) := by decide +kernel
theorem dX0_repair_81 : decode cX0_repair 81 = .ok (.iinc 2 1, 3) := by decide +kernel
theorem dX0_repair_84 : decode cX0_repair 84 = .ok (.goto (-16), 3) := by decide +kernel
theorem dX0_repair_87 : decode cX0_repair 87 = .ok (.aload_n 0, 1) := by decide +kernel
theorem dX0_repair_88 : decode cX0_repair 88 = .ok (.getfield 78, 3) := by decide +kernel
theorem dX0_repair_91 : decode cX0_repair 91 = .ok (.ireturn, 1) := by decide +kernel
theorem dX0_listMissing_0 : decode cX0_listMissing 0 = .ok (.aload_n 0, 1) := by decide +kernel
theorem dX0_listMissing_1 : decode cX0_listMissing 1 = .ok (.iconst 0, 1) := by decide +kernel
theorem dX0_listMissing_2 : decode cX0_listMissing 2 = .ok (.putfield 78, 3) := by decide +kernel
theorem dX0_listMissing_5 : decode cX0_listMissing 5 = .ok (.iconst 0, 1) := by decide +kernel
theorem dX0_listMissing_6 : decode cX0_listMissing 6 = .ok (.istore_n 1, 1) := by decide +kernel
theorem dX0_listMissing_7 : decode cX0_listMissing 7 = .ok (.iload_n 1, 1) := by decide +kernel
theorem dX0_listMissing_8 : decode cX0_listMissing 8 = .ok (.bipush 6, 2) := by decide +kernel
theorem dX0_listMissing_10 : decode cX0_listMissing 10 = .ok (.if_icmp .ge 39, 3) := by decide +kernel
theorem dX0_listMissing_13 : decode cX0_listMissing 13 = .ok (.aload_n 0, 1) := by decide +kernel
theorem dX0_listMissing_14 : decode cX0_listMissing 14 = .ok (.iload_n 1, 1) := by decide +kernel
theorem dX0_listMissing_15 : decode cX0_listMissing 15 = .ok (.invokevirtual 56, 3) := by decide +kernel
theorem dX0_listMissing_18 : decode cX0_listMissing 18 = .ok (.istore_n 2, 1) := by decide +kernel
theorem dX0_listMissing_19 : decode cX0_listMissing 19 = .ok (.iload_n 2, 1) := by decide +kernel
theorem dX0_listMissing_20 : decode cX0_listMissing 20 = .ok (.ifCond .eq 23, 3) := by decide +kernel
theorem dX0_listMissing_23 : decode cX0_listMissing 23 = .ok (.aload_n 0, 1) := by decide +kernel
theorem dX0_listMissing_24 : decode cX0_listMissing 24 = .ok (.getfield 32, 3) := by decide +kernel
theorem dX0_listMissing_27 : decode cX0_listMissing 27 = .ok (.aload_n 0, 1) := by decide +kernel
theorem dX0_listMissing_28 : decode cX0_listMissing 28 = .ok (.getfield 78, 3) := by decide +kernel
theorem dX0_listMissing_31 : decode cX0_listMissing 31 = .ok (.iload_n 1, 1) := by decide +kernel
theorem dX0_listMissing_32 : decode cX0_listMissing 32 = .ok (.iastore, 1) := by decide +kernel
theorem dX0_listMissing_33 : decode cX0_listMissing 33 = .ok (.aload_n 0, 1) := by decide +kernel
theorem dX0_listMissing_34 : decode cX0_listMissing 34 = .ok (.dup, 1) := by decide +kernel
theorem dX0_listMissing_35 : decode cX0_listMissing 35 = .ok (.getfield 78, 3) := by decide +kernel
theorem dX0_listMissing_38 : decode cX0_listMissing 38 = .ok (.iconst 1, 1) := by decide +kernel
theorem dX0_listMissing_39 : decode cX0_listMissing 39 = .ok (.iadd, 1) := by decide +kernel
theorem dX0_listMissing_40 : decode cX0_listMissing 40 = .ok (.putfield 78, 3) := by decide +kernel
theorem dX0_listMissing_43 : decode cX0_listMissing 43 = .ok (.iinc 1 1, 3) := by decide +kernel
theorem dX0_listMissing_46 : decode cX0_listMissing 46 = .ok (.goto (-39), 3) := by decide +kernel
theorem dX0_listMissing_49 : decode cX0_listMissing 49 = .ok (.return_, 1) := by decide +kernel
theorem dX0_goodRecoveries_0 : decode cX0_goodRecoveries 0 = .ok (.iconst 0, 1) := by decide +kernel
theorem dX0_goodRecoveries_1 : decode cX0_goodRecoveries 1 = .ok (.istore_n 1, 1) := by decide +kernel
theorem dX0_goodRecoveries_2 : decode cX0_goodRecoveries 2 = .ok (.iconst 0, 1) := by decide +kernel
theorem dX0_goodRecoveries_3 : decode cX0_goodRecoveries 3 = .ok (.istore_n 2, 1) := by decide +kernel
theorem dX0_goodRecoveries_4 : decode cX0_goodRecoveries 4 = .ok (.iload_n 2, 1) := by decide +kernel
theorem dX0_goodRecoveries_5 : decode cX0_goodRecoveries 5 = .ok (.aload_n 0, 1) := by decide +kernel
theorem dX0_goodRecoveries_6 : decode cX0_goodRecoveries 6 = .ok (.getfield 59, 3) := by decide +kernel
theorem dX0_goodRecoveries_9 : decode cX0_goodRecoveries 9 = .ok (.if_icmp .ge 21, 3) := by decide +kernel
theorem dX0_goodRecoveries_12 : decode cX0_goodRecoveries 12 = .ok (.aload_n 0, 1) := by decide +kernel
theorem dX0_goodRecoveries_13 : decode cX0_goodRecoveries 13 = .ok (.getfield 29, 3) := by decide +kernel
theorem dX0_goodRecoveries_16 : decode cX0_goodRecoveries 16 = .ok (.iload_n 2, 1) := by decide +kernel
theorem dX0_goodRecoveries_17 : decode cX0_goodRecoveries 17 = .ok (.baload, 1) := by decide +kernel
theorem dX0_goodRecoveries_18 : decode cX0_goodRecoveries 18 = .ok (.ifCond .eq 6, 3) := by decide +kernel
theorem dX0_goodRecoveries_21 : decode cX0_goodRecoveries 21 = .ok (.iinc 1 1, 3) := by decide +kernel
theorem dX0_goodRecoveries_24 : decode cX0_goodRecoveries 24 = .ok (.iinc 2 1, 3) := by decide +kernel
theorem dX0_goodRecoveries_27 : decode cX0_goodRecoveries 27 = .ok (.goto (-23), 3) := by decide +kernel
theorem dX0_goodRecoveries_30 : decode cX0_goodRecoveries 30 = .ok (.iload_n 1, 1) := by decide +kernel
theorem dX0_goodRecoveries_31 : decode cX0_goodRecoveries 31 = .ok (.ireturn, 1) := by decide +kernel
theorem dX0_setEquations_0 : decode cX0_setEquations 0 = .ok (.iconst 0, 1) := by decide +kernel
theorem dX0_setEquations_1 : decode cX0_setEquations 1 = .ok (.istore_n 1, 1) := by decide +kernel
theorem dX0_setEquations_2 : decode cX0_setEquations 2 = .ok (.iconst 0, 1) := by decide +kernel
theorem dX0_setEquations_3 : decode cX0_setEquations 3 = .ok (.istore_n 2, 1) := by decide +kernel
theorem dX0_setEquations_4 : decode cX0_setEquations 4 = .ok (.iload_n 2, 1) := by decide +kernel
theorem dX0_setEquations_5 : decode cX0_setEquations 5 = .ok (.aload_n 0, 1) := by decide +kernel
theorem dX0_setEquations_6 : decode cX0_setEquations 6 = .ok (.getfield 59, 3) := by decide +kernel
theorem dX0_setEquations_9 : decode cX0_setEquations 9 = .ok (.if_icmp .ge 36, 3) := by decide +kernel
theorem dX0_setEquations_12 : decode cX0_setEquations 12 = .ok (.iload_n 1, 1) := by decide +kernel
theorem dX0_setEquations_13 : decode cX0_setEquations 13 = .ok (.aload_n 0, 1) := by decide +kernel
theorem dX0_setEquations_14 : decode cX0_setEquations 14 = .ok (.getfield 78, 3) := by decide +kernel
theorem dX0_setEquations_17 : decode cX0_setEquations 17 = .ok (.if_icmp .ge 28, 3) := by decide +kernel
theorem dX0_setEquations_20 : decode cX0_setEquations 20 = .ok (.aload_n 0, 1) := by decide +kernel
theorem dX0_setEquations_21 : decode cX0_setEquations 21 = .ok (.getfield 29, 3) := by decide +kernel
theorem dX0_setEquations_24 : decode cX0_setEquations 24 = .ok (.iload_n 2, 1) := by decide +kernel
theorem dX0_setEquations_25 : decode cX0_setEquations 25 = .ok (.baload, 1) := by decide +kernel
theorem dX0_setEquations_26 : decode cX0_setEquations 26 = .ok (.ifCond .eq 13, 3) := by decide +kernel
theorem dX0_setEquations_29 : decode cX0_setEquations 29 = .ok (.aload_n 0, 1) := by decide +kernel
theorem dX0_setEquations_30 : decode cX0_setEquations 30 = .ok (.getfield 35, 3) := by decide +kernel
theorem dX0_setEquations_33 : decode cX0_setEquations 33 = .ok (.iload_n 1, 1) := by decide +kernel
theorem dX0_setEquations_34 : decode cX0_setEquations 34 = .ok (.iload_n 2, 1) := by decide +kernel
theorem dX0_setEquations_35 : decode cX0_setEquations 35 = .ok (.iastore, 1) := by decide +kernel
theorem dX0_setEquations_36 : decode cX0_setEquations 36 = .ok (.iinc 1 1, 3) := by decide +kernel
theorem dX0_setEquations_39 : decode cX0_setEquations 39 = .ok (.iinc 2 1, 3) := by decide +kernel
theorem dX0_setEquations_42 : decode cX0_setEquations 42 = .ok (.goto (-38), 3) := by decide +kernel
theorem dX0_setEquations_45 : decode cX0_setEquations 45 = .ok (.iconst 0, 1) := by decide +kernel
theorem dX0_setEquations_46 : decode cX0_setEquations 46 = .ok (.istore_n 2, 1) := by decide +kernel
theorem dX0_setEquations_47 : decode cX0_setEquations 47 = .ok (.iload_n 2, 1) := by decide +kernel
theorem dX0_setEquations_48 : decode cX0_setEquations 48 = .ok (.aload_n 0, 1) := by decide +kernel
theorem dX0_setEquations_49 : decode cX0_setEquations 49 = .ok (.getfield 78, 3) := by decide +kernel
theorem dX0_setEquations_52 : decode cX0_setEquations 52 = .ok (.if_icmp .ge 97, 3) := by decide +kernel
theorem dX0_setEquations_55 : decode cX0_setEquations 55 = .ok (.iconst 0, 1) := by decide +kernel
theorem dX0_setEquations_56 : decode cX0_setEquations 56 = .ok (.istore_n 3, 1) := by decide +kernel
theorem dX0_setEquations_57 : decode cX0_setEquations 57 = .ok (.iload_n 3, 1) := by decide +kernel
theorem dX0_setEquations_58 : decode cX0_setEquations 58 = .ok (.aload_n 0, 1) := by decide +kernel
theorem dX0_setEquations_59 : decode cX0_setEquations 59 = .ok (.getfield 78, 3) := by decide +kernel
theorem dX0_setEquations_62 : decode cX0_setEquations 62 = .ok (.if_icmp .ge 36, 3) := by decide +kernel
theorem dX0_setEquations_65 : decode cX0_setEquations 65 = .ok (.aload_n 0, 1) := by decide +kernel
theorem dX0_setEquations_66 : decode cX0_setEquations 66 = .ok (.getfield 38, 3) := by decide +kernel
theorem dX0_setEquations_69 : decode cX0_setEquations 69 = .ok (.iload_n 2, 1) := by decide +kernel
theorem dX0_setEquations_70 : decode cX0_setEquations 70 = .ok (.bipush 12, 2) := by decide +kernel
theorem dX0_setEquations_72 : decode cX0_setEquations 72 = .ok (.imul, 1) := by decide +kernel
theorem dX0_setEquations_73 : decode cX0_setEquations 73 = .ok (.iload_n 3, 1) := by decide +kernel
theorem dX0_setEquations_74 : decode cX0_setEquations 74 = .ok (.iadd, 1) := by decide +kernel
theorem dX0_setEquations_75 : decode cX0_setEquations 75 = .ok (.aload_n 0, 1) := by decide +kernel
theorem dX0_setEquations_76 : decode cX0_setEquations 76 = .ok (.aload_n 0, 1) := by decide +kernel
theorem dX0_setEquations_77 : decode cX0_setEquations 77 = .ok (.getfield 35, 3) := by decide +kernel
theorem dX0_setEquations_80 : decode cX0_setEquations 80 = .ok (.iload_n 2, 1) := by decide +kernel
theorem dX0_setEquations_81 : decode cX0_setEquations 81 = .ok (.iaload, 1) := by decide +kernel
theorem dX0_setEquations_82 : decode cX0_setEquations 82 = .ok (.aload_n 0, 1) := by decide +kernel
theorem dX0_setEquations_83 : decode cX0_setEquations 83 = .ok (.getfield 32, 3) := by decide +kernel
theorem dX0_setEquations_86 : decode cX0_setEquations 86 = .ok (.iload_n 3, 1) := by decide +kernel
theorem dX0_setEquations_87 : decode cX0_setEquations 87 = .ok (.iaload, 1) := by decide +kernel
theorem dX0_setEquations_88 : decode cX0_setEquations 88 = .ok (.invokevirtual 63, 3) := by decide +kernel
theorem dX0_setEquations_91 : decode cX0_setEquations 91 = .ok (.iastore, 1) := by decide +kernel
theorem dX0_setEquations_92 : decode cX0_setEquations 92 = .ok (.iinc 3 1, 3) := by decide +kernel
theorem dX0_setEquations_95 : decode cX0_setEquations 95 = .ok (.goto (-38), 3) := by decide +kernel
theorem dX0_setEquations_98 : decode cX0_setEquations 98 = .ok (.iconst 0, 1) := by decide +kernel
theorem dX0_setEquations_99 : decode cX0_setEquations 99 = .ok (.istore_n 3, 1) := by decide +kernel
theorem dX0_setEquations_100 : decode cX0_setEquations 100 = .ok (.iload_n 3, 1) := by decide +kernel
theorem dX0_setEquations_101 : decode cX0_setEquations 101 = .ok (.bipush 8, 2) := by decide +kernel
theorem dX0_setEquations_103 : decode cX0_setEquations 103 = .ok (.if_icmp .ge 40, 3) := by decide +kernel
theorem dX0_setEquations_106 : decode cX0_setEquations 106 = .ok (.aload_n 0, 1) := by decide +kernel
theorem dX0_setEquations_107 : decode cX0_setEquations 107 = .ok (.aload_n 0, 1) := by decide +kernel
theorem dX0_setEquations_108 : decode cX0_setEquations 108 = .ok (.getfield 35, 3) := by decide +kernel
theorem dX0_setEquations_111 : decode cX0_setEquations 111 = .ok (.iload_n 2, 1) := by decide +kernel
theorem dX0_setEquations_112 : decode cX0_setEquations 112 = .ok (.iaload, 1) := by decide +kernel
theorem dX0_setEquations_113 : decode cX0_setEquations 113 = .ok (.iload_n 3, 1) := by decide +kernel
theorem dX0_setEquations_114 : decode cX0_setEquations 114 = .ok (.invokevirtual 81, 3) := by decide +kernel
theorem dX0_setEquations_117 : decode cX0_setEquations 117 = .ok (.istore 4, 2) := by decide +kernel
theorem dX0_setEquations_119 : decode cX0_setEquations 119 = .ok (.aload_n 0, 1) := by decide +kernel
theorem dX0_setEquations_120 : decode cX0_setEquations 120 = .ok (.getfield 38, 3) := by decide +kernel
theorem dX0_setEquations_123 : decode cX0_setEquations 123 = .ok (.iload_n 2, 1) := by decide +kernel
theorem dX0_setEquations_124 : decode cX0_setEquations 124 = .ok (.bipush 12, 2) := by decide +kernel
theorem dX0_setEquations_126 : decode cX0_setEquations 126 = .ok (.imul, 1) := by decide +kernel
theorem dX0_setEquations_127 : decode cX0_setEquations 127 = .ok (.aload_n 0, 1) := by decide +kernel
theorem dX0_setEquations_128 : decode cX0_setEquations 128 = .ok (.getfield 78, 3) := by decide +kernel
theorem dX0_setEquations_131 : decode cX0_setEquations 131 = .ok (.iadd, 1) := by decide +kernel
theorem dX0_setEquations_132 : decode cX0_setEquations 132 = .ok (.iload_n 3, 1) := by decide +kernel
theorem dX0_setEquations_133 : decode cX0_setEquations 133 = .ok (.iadd, 1) := by decide +kernel
theorem dX0_setEquations_134 : decode cX0_setEquations 134 = .ok (.iload 4, 2) := by decide +kernel
theorem dX0_setEquations_136 : decode cX0_setEquations 136 = .ok (.iastore, 1) := by decide +kernel
theorem dX0_setEquations_137 : decode cX0_setEquations 137 = .ok (.iinc 3 1, 3) := by decide +kernel
theorem dX0_setEquations_140 : decode cX0_setEquations 140 = .ok (.goto (-40), 3) := by decide +kernel
theorem dX0_setEquations_143 : decode cX0_setEquations 143 = .ok (.iinc 2 1, 3) := by decide +kernel
theorem dX0_setEquations_146 : decode cX0_setEquations 146 = .ok (.goto (-99), 3) := by decide +kernel
theorem dX0_setEquations_149 : decode cX0_setEquations 149 = .ok (.return_, 1) := by decide +kernel
theorem dX0_restOf_0 : decode cX0_restOf 0 = .ok (.aload_n 0, 1) := by decide +kernel
theorem dX0_restOf_1 : decode cX0_restOf 1 = .ok (.getfield 26, 3) := by decide +kernel
theorem dX0_restOf_4 : decode cX0_restOf 4 = .ok (.iload_n 1, 1) := by decide +kernel
theorem dX0_restOf_5 : decode cX0_restOf 5 = .ok (.bipush 8, 2) := by decide +kernel
theorem dX0_restOf_7 : decode cX0_restOf 7 = .ok (.imul, 1) := by decide +kernel
theorem dX0_restOf_8 : decode cX0_restOf 8 = .ok (.iload_n 2, 1) := by decide +kernel
theorem dX0_restOf_9 : decode cX0_restOf 9 = .ok (.iadd, 1) := by decide +kernel
theorem dX0_restOf_10 : decode cX0_restOf 10 = .ok (.iaload, 1) := by decide +kernel
theorem dX0_restOf_11 : decode cX0_restOf 11 = .ok (.istore_n 3, 1) := by decide +kernel
theorem dX0_restOf_12 : decode cX0_restOf 12 = .ok (.iconst 0, 1) := by decide +kernel
theorem dX0_restOf_13 : decode cX0_restOf 13 = .ok (.istore 4, 2) := by decide +kernel
theorem dX0_restOf_15 : decode cX0_restOf 15 = .ok (.iload 4, 2) := by decide +kernel
theorem dX0_restOf_17 : decode cX0_restOf 17 = .ok (.bipush 6, 2) := by decide +kernel
theorem dX0_restOf_19 : decode cX0_restOf 19 = .ok (.if_icmp .ge 52, 3) := by decide +kernel
theorem dX0_restOf_22 : decode cX0_restOf 22 = .ok (.aload_n 0, 1) := by decide +kernel
theorem dX0_restOf_23 : decode cX0_restOf 23 = .ok (.iload 4, 2) := by decide +kernel
theorem dX0_restOf_25 : decode cX0_restOf 25 = .ok (.invokevirtual 84, 3) := by decide +kernel
theorem dX0_restOf_28 : decode cX0_restOf 28 = .ok (.istore 5, 2) := by decide +kernel
theorem dX0_restOf_30 : decode cX0_restOf 30 = .ok (.iload 5, 2) := by decide +kernel
theorem dX0_restOf_32 : decode cX0_restOf 32 = .ok (.ifCond .ne 33, 3) := by decide +kernel
theorem dX0_restOf_35 : decode cX0_restOf 35 = .ok (.aload_n 0, 1) := by decide +kernel
theorem dX0_restOf_36 : decode cX0_restOf 36 = .ok (.iload_n 1, 1) := by decide +kernel
theorem dX0_restOf_37 : decode cX0_restOf 37 = .ok (.iload 4, 2) := by decide +kernel
theorem dX0_restOf_39 : decode cX0_restOf 39 = .ok (.invokevirtual 63, 3) := by decide +kernel
theorem dX0_restOf_42 : decode cX0_restOf 42 = .ok (.istore 6, 2) := by decide +kernel
theorem dX0_restOf_44 : decode cX0_restOf 44 = .ok (.iload_n 3, 1) := by decide +kernel
theorem dX0_restOf_45 : decode cX0_restOf 45 = .ok (.aload_n 0, 1) := by decide +kernel
theorem dX0_restOf_46 : decode cX0_restOf 46 = .ok (.iload 6, 2) := by decide +kernel
theorem dX0_restOf_48 : decode cX0_restOf 48 = .ok (.aload_n 0, 1) := by decide +kernel
theorem dX0_restOf_49 : decode cX0_restOf 49 = .ok (.getfield 16, 3) := by decide +kernel
theorem dX0_restOf_52 : decode cX0_restOf 52 = .ok (.iload 4, 2) := by decide +kernel
theorem dX0_restOf_54 : decode cX0_restOf 54 = .ok (.bipush 8, 2) := by decide +kernel
theorem dX0_restOf_56 : decode cX0_restOf 56 = .ok (.imul, 1) := by decide +kernel
theorem dX0_restOf_57 : decode cX0_restOf 57 = .ok (.iload_n 2, 1) := by decide +kernel
theorem dX0_restOf_58 : decode cX0_restOf 58 = .ok (.iadd, 1) := by decide +kernel
theorem dX0_restOf_59 : decode cX0_restOf 59 = .ok (.iaload, 1) := by decide +kernel
theorem dX0_restOf_60 : decode cX0_restOf 60 = .ok (.invokevirtual 67, 3) := by decide +kernel
theorem dX0_restOf_63 : decode cX0_restOf 63 = .ok (.ixor, 1) := by decide +kernel
theorem dX0_restOf_64 : decode cX0_restOf 64 = .ok (.istore_n 3, 1) := by decide +kernel
theorem dX0_restOf_65 : decode cX0_restOf 65 = .ok (.iinc 4 1, 3) := by decide +kernel
theorem dX0_restOf_68 : decode cX0_restOf 68 = .ok (.goto (-53), 3) := by decide +kernel
theorem dX0_restOf_71 : decode cX0_restOf 71 = .ok (.iload_n 3, 1) := by decide +kernel
theorem dX0_restOf_72 : decode cX0_restOf 72 = .ok (.ireturn, 1) := by decide +kernel
theorem dX0_isMissing_0 : decode cX0_isMissing 0 = .ok (.iconst 0, 1) := by decide +kernel
theorem dX0_isMissing_1 : decode cX0_isMissing 1 = .ok (.istore_n 2, 1) := by decide +kernel
theorem dX0_isMissing_2 : decode cX0_isMissing 2 = .ok (.iload_n 2, 1) := by decide +kernel
theorem dX0_isMissing_3 : decode cX0_isMissing 3 = .ok (.aload_n 0, 1) := by decide +kernel
theorem dX0_isMissing_4 : decode cX0_isMissing 4 = .ok (.getfield 78, 3) := by decide +kernel
theorem dX0_isMissing_7 : decode cX0_isMissing 7 = .ok (.if_icmp .ge 21, 3) := by decide +kernel
theorem dX0_isMissing_10 : decode cX0_isMissing 10 = .ok (.aload_n 0, 1) := by decide +kernel
theorem dX0_isMissing_11 : decode cX0_isMissing 11 = .ok (.getfield 32, 3) := by decide +kernel
theorem dX0_isMissing_14 : decode cX0_isMissing 14 = .ok (.iload_n 2, 1) := by decide +kernel
theorem dX0_isMissing_15 : decode cX0_isMissing 15 = .ok (.iaload, 1) := by decide +kernel
theorem dX0_isMissing_16 : decode cX0_isMissing 16 = .ok (.iload_n 1, 1) := by decide +kernel
theorem dX0_isMissing_17 : decode cX0_isMissing 17 = .ok (.if_icmp .ne 5, 3) := by decide +kernel
theorem dX0_isMissing_20 : decode cX0_isMissing 20 = .ok (.iconst 1, 1) := by decide +kernel
theorem dX0_isMissing_21 : decode cX0_isMissing 21 = .ok (.ireturn, 1) := by decide +kernel
theorem dX0_isMissing_22 : decode cX0_isMissing 22 = .ok (.iinc 2 1, 3) := by decide +kernel
theorem dX0_isMissing_25 : decode cX0_isMissing 25 = .ok (.goto (-23), 3) := by decide +kernel
theorem dX0_isMissing_28 : decode cX0_isMissing 28 = .ok (.iconst 0, 1) := by decide +kernel
theorem dX0_isMissing_29 : decode cX0_isMissing 29 = .ok (.ireturn, 1) := by decide +kernel
theorem dX0_eliminate_0 : decode cX0_eliminate 0 = .ok (.iload_n 1, 1) := by decide +kernel
theorem dX0_eliminate_1 : decode cX0_eliminate 1 = .ok (.istore_n 2, 1) := by decide +kernel
theorem dX0_eliminate_2 : decode cX0_eliminate 2 = .ok (.iload_n 2, 1) := by decide +kernel
theorem dX0_eliminate_3 : decode cX0_eliminate 3 = .ok (.aload_n 0, 1) := by decide +kernel
theorem dX0_eliminate_4 : decode cX0_eliminate 4 = .ok (.getfield 78, 3) := by decide +kernel
theorem dX0_eliminate_7 : decode cX0_eliminate 7 = .ok (.iconst 1, 1) := by decide +kernel
theorem dX0_eliminate_8 : decode cX0_eliminate 8 = .ok (.isub, 1) := by decide +kernel
theorem dX0_eliminate_9 : decode cX0_eliminate 9 = .ok (.if_icmp .ge 23, 3) := by decide +kernel
theorem dX0_eliminate_12 : decode cX0_eliminate 12 = .ok (.aload_n 0, 1) := by decide +kernel
theorem dX0_eliminate_13 : decode cX0_eliminate 13 = .ok (.getfield 38, 3) := by decide +kernel
theorem dX0_eliminate_16 : decode cX0_eliminate 16 = .ok (.iload_n 2, 1) := by decide +kernel
theorem dX0_eliminate_17 : decode cX0_eliminate 17 = .ok (.bipush 12, 2) := by decide +kernel
theorem dX0_eliminate_19 : decode cX0_eliminate 19 = .ok (.imul, 1) := by decide +kernel
theorem dX0_eliminate_20 : decode cX0_eliminate 20 = .ok (.iload_n 1, 1) := by decide +kernel
theorem dX0_eliminate_21 : decode cX0_eliminate 21 = .ok (.iadd, 1) := by decide +kernel
theorem dX0_eliminate_22 : decode cX0_eliminate 22 = .ok (.iaload, 1) := by decide +kernel
theorem dX0_eliminate_23 : decode cX0_eliminate 23 = .ok (.ifCond .ne 9, 3) := by decide +kernel
theorem dX0_eliminate_26 : decode cX0_eliminate 26 = .ok (.iinc 2 1, 3) := by decide +kernel
theorem dX0_eliminate_29 : decode cX0_eliminate 29 = .ok (.goto (-27), 3) := by decide +kernel
theorem dX0_eliminate_32 : decode cX0_eliminate 32 = .ok (.iload_n 2, 1) := by decide +kernel
theorem dX0_eliminate_33 : decode cX0_eliminate 33 = .ok (.iload_n 1, 1) := by decide +kernel
theorem dX0_eliminate_34 : decode cX0_eliminate 34 = .ok (.if_icmp .eq 9, 3) := by decide +kernel
theorem dX0_eliminate_37 : decode cX0_eliminate 37 = .ok (.aload_n 0, 1) := by decide +kernel
theorem dX0_eliminate_38 : decode cX0_eliminate 38 = .ok (.iload_n 2, 1) := by decide +kernel
theorem dX0_eliminate_39 : decode cX0_eliminate 39 = .ok (.iload_n 1, 1) := by decide +kernel
theorem dX0_eliminate_40 : decode cX0_eliminate 40 = .ok (.invokevirtual 87, 3) := by decide +kernel
theorem dX0_eliminate_43 : decode cX0_eliminate 43 = .ok (.aload_n 0, 1) := by decide +kernel
theorem dX0_eliminate_44 : decode cX0_eliminate 44 = .ok (.aload_n 0, 1) := by decide +kernel
theorem dX0_eliminate_45 : decode cX0_eliminate 45 = .ok (.getfield 38, 3) := by decide +kernel
theorem dX0_eliminate_48 : decode cX0_eliminate 48 = .ok (.iload_n 1, 1) := by decide +kernel
theorem dX0_eliminate_49 : decode cX0_eliminate 49 = .ok (.bipush 12, 2) := by decide +kernel
theorem dX0_eliminate_51 : decode cX0_eliminate 51 = .ok (.imul, 1) := by decide +kernel
theorem dX0_eliminate_52 : decode cX0_eliminate 52 = .ok (.iload_n 1, 1) := by decide +kernel
theorem dX0_eliminate_53 : decode cX0_eliminate 53 = .ok (.iadd, 1) := by decide +kernel
theorem dX0_eliminate_54 : decode cX0_eliminate 54 = .ok (.iaload, 1) := by decide +kernel
theorem dX0_eliminate_55 : decode cX0_eliminate 55 = .ok (.invokevirtual 45, 3) := by decide +kernel
theorem dX0_eliminate_58 : decode cX0_eliminate 58 = .ok (.istore_n 3, 1) := by decide +kernel
theorem dX0_eliminate_59 : decode cX0_eliminate 59 = .ok (.iconst 0, 1) := by decide +kernel
theorem dX0_eliminate_60 : decode cX0_eliminate 60 = .ok (.istore 4, 2) := by decide +kernel
theorem dX0_eliminate_62 : decode cX0_eliminate 62 = .ok (.iload 4, 2) := by decide +kernel
theorem dX0_eliminate_64 : decode cX0_eliminate 64 = .ok (.aload_n 0, 1) := by decide +kernel
theorem dX0_eliminate_65 : decode cX0_eliminate 65 = .ok (.getfield 78, 3) := by decide +kernel
theorem dX0_eliminate_68 : decode cX0_eliminate 68 = .ok (.bipush 8, 2) := by decide +kernel
theorem dX0_eliminate_70 : decode cX0_eliminate 70 = .ok (.iadd, 1) := by decide +kernel
theorem dX0_eliminate_71 : decode cX0_eliminate 71 = .ok (.if_icmp .ge 38, 3) := by decide +kernel
theorem dX0_eliminate_74 : decode cX0_eliminate 74 = .ok (.aload_n 0, 1) := by decide +kernel
theorem dX0_eliminate_75 : decode cX0_eliminate 75 = .ok (.getfield 38, 3) := by decide +kernel
theorem dX0_eliminate_78 : decode cX0_eliminate 78 = .ok (.iload_n 1, 1) := by decide +kernel
theorem dX0_eliminate_79 : decode cX0_eliminate 79 = .ok (.bipush 12, 2) := by decide +kernel
theorem dX0_eliminate_81 : decode cX0_eliminate 81 = .ok (.imul, 1) := by decide +kernel
theorem dX0_eliminate_82 : decode cX0_eliminate 82 = .ok (.iload 4, 2) := by decide +kernel
theorem dX0_eliminate_84 : decode cX0_eliminate 84 = .ok (.iadd, 1) := by decide +kernel
theorem dX0_eliminate_85 : decode cX0_eliminate 85 = .ok (.aload_n 0, 1) := by decide +kernel
theorem dX0_eliminate_86 : decode cX0_eliminate 86 = .ok (.iload_n 3, 1) := by decide +kernel
theorem dX0_eliminate_87 : decode cX0_eliminate 87 = .ok (.aload_n 0, 1) := by decide +kernel
theorem dX0_eliminate_88 : decode cX0_eliminate 88 = .ok (.getfield 38, 3) := by decide +kernel
theorem dX0_eliminate_91 : decode cX0_eliminate 91 = .ok (.iload_n 1, 1) := by decide +kernel
theorem dX0_eliminate_92 : decode cX0_eliminate 92 = .ok (.bipush 12, 2) := by decide +kernel
theorem dX0_eliminate_94 : decode cX0_eliminate 94 = .ok (.imul, 1) := by decide +kernel
theorem dX0_eliminate_95 : decode cX0_eliminate 95 = .ok (.iload 4, 2) := by decide +kernel
theorem dX0_eliminate_97 : decode cX0_eliminate 97 = .ok (.iadd, 1) := by decide +kernel
theorem dX0_eliminate_98 : decode cX0_eliminate 98 = .ok (.iaload, 1) := by decide +kernel
theorem dX0_eliminate_99 : decode cX0_eliminate 99 = .ok (.invokevirtual 67, 3) := by decide +kernel
theorem dX0_eliminate_102 : decode cX0_eliminate 102 = .ok (.iastore, 1) := by decide +kernel
theorem dX0_eliminate_103 : decode cX0_eliminate 103 = .ok (.iinc 4 1, 3) := by decide +kernel
theorem dX0_eliminate_106 : decode cX0_eliminate 106 = .ok (.goto (-44), 3) := by decide +kernel
theorem dX0_eliminate_109 : decode cX0_eliminate 109 = .ok (.iconst 0, 1) := by decide +kernel
theorem dX0_eliminate_110 : decode cX0_eliminate 110 = .ok (.istore 4, 2) := by decide +kernel
theorem dX0_eliminate_112 : decode cX0_eliminate 112 = .ok (.iload 4, 2) := by decide +kernel
theorem dX0_eliminate_114 : decode cX0_eliminate 114 = .ok (.aload_n 0, 1) := by decide +kernel
theorem dX0_eliminate_115 : decode cX0_eliminate 115 = .ok (.getfield 78, 3) := by decide +kernel
theorem dX0_eliminate_118 : decode cX0_eliminate 118 = .ok (.if_icmp .ge 84, 3) := by decide +kernel
theorem dX0_eliminate_121 : decode cX0_eliminate 121 = .ok (.aload_n 0, 1) := by decide +kernel
theorem dX0_eliminate_122 : decode cX0_eliminate 122 = .ok (.getfield 38, 3) := by decide +kernel
theorem dX0_eliminate_125 : decode cX0_eliminate 125 = .ok (.iload 4, 2) := by decide +kernel
theorem dX0_eliminate_127 : decode cX0_eliminate 127 = .ok (.bipush 12, 2) := by decide +kernel
theorem dX0_eliminate_129 : decode cX0_eliminate 129 = .ok (.imul, 1) := by decide +kernel
theorem dX0_eliminate_130 : decode cX0_eliminate 130 = .ok (.iload_n 1, 1) := by decide +kernel
theorem dX0_eliminate_131 : decode cX0_eliminate 131 = .ok (.iadd, 1) := by decide +kernel
theorem dX0_eliminate_132 : decode cX0_eliminate 132 = .ok (.iaload, 1) := by decide +kernel
theorem dX0_eliminate_133 : decode cX0_eliminate 133 = .ok (.istore 5, 2) := by decide +kernel
theorem dX0_eliminate_135 : decode cX0_eliminate 135 = .ok (.iconst 0, 1) := by decide +kernel
theorem dX0_eliminate_136 : decode cX0_eliminate 136 = .ok (.istore 6, 2) := by decide +kernel
theorem dX0_eliminate_138 : decode cX0_eliminate 138 = .ok (.iload 6, 2) := by decide +kernel
theorem dX0_eliminate_140 : decode cX0_eliminate 140 = .ok (.aload_n 0, 1) := by decide +kernel
theorem dX0_eliminate_141 : decode cX0_eliminate 141 = .ok (.getfield 78, 3) := by decide +kernel
theorem dX0_eliminate_144 : decode cX0_eliminate 144 = .ok (.bipush 8, 2) := by decide +kernel
theorem dX0_eliminate_146 : decode cX0_eliminate 146 = .ok (.iadd, 1) := by decide +kernel
theorem dX0_eliminate_147 : decode cX0_eliminate 147 = .ok (.if_icmp .ge 49, 3) := by decide +kernel
theorem dX0_eliminate_150 : decode cX0_eliminate 150 = .ok (.iload 4, 2) := by decide +kernel
theorem dX0_eliminate_152 : decode cX0_eliminate 152 = .ok (.iload_n 1, 1) := by decide +kernel
theorem dX0_eliminate_153 : decode cX0_eliminate 153 = .ok (.if_icmp .eq 43, 3) := by decide +kernel
theorem dX0_eliminate_156 : decode cX0_eliminate 156 = .ok (.aload_n 0, 1) := by decide +kernel
theorem dX0_eliminate_157 : decode cX0_eliminate 157 = .ok (.getfield 38, 3) := by decide +kernel
theorem dX0_eliminate_160 : decode cX0_eliminate 160 = .ok (.iload 4, 2) := by decide +kernel
theorem dX0_eliminate_162 : decode cX0_eliminate 162 = .ok (.bipush 12, 2) := by decide +kernel
theorem dX0_eliminate_164 : decode cX0_eliminate 164 = .ok (.imul, 1) := by decide +kernel
theorem dX0_eliminate_165 : decode cX0_eliminate 165 = .ok (.iload 6, 2) := by decide +kernel
theorem dX0_eliminate_167 : decode cX0_eliminate 167 = .ok (.iadd, 1) := by decide +kernel
theorem dX0_eliminate_168 : decode cX0_eliminate 168 = .ok (.dup2, 1) := by decide +kernel
theorem dX0_eliminate_169 : decode cX0_eliminate 169 = .ok (.iaload, 1) := by decide +kernel
theorem dX0_eliminate_170 : decode cX0_eliminate 170 = .ok (.aload_n 0, 1) := by decide +kernel
theorem dX0_eliminate_171 : decode cX0_eliminate 171 = .ok (.iload 5, 2) := by decide +kernel
theorem dX0_eliminate_173 : decode cX0_eliminate 173 = .ok (.aload_n 0, 1) := by decide +kernel
theorem dX0_eliminate_174 : decode cX0_eliminate 174 = .ok (.getfield 38, 3) := by decide +kernel
theorem dX0_eliminate_177 : decode cX0_eliminate 177 = .ok (.iload_n 1, 1) := by decide +kernel
theorem dX0_eliminate_178 : decode cX0_eliminate 178 = .ok (.bipush 12, 2) := by decide +kernel
theorem dX0_eliminate_180 : decode cX0_eliminate 180 = .ok (.imul, 1) := by decide +kernel
theorem dX0_eliminate_181 : decode cX0_eliminate 181 = .ok (.iload 6, 2) := by decide +kernel
theorem dX0_eliminate_183 : decode cX0_eliminate 183 = .ok (.iadd, 1) := by decide +kernel
theorem dX0_eliminate_184 : decode cX0_eliminate 184 = .ok (.iaload, 1) := by decide +kernel
theorem dX0_eliminate_185 : decode cX0_eliminate 185 = .ok (.invokevirtual 67, 3) := by decide +kernel
theorem dX0_eliminate_188 : decode cX0_eliminate 188 = .ok (.ixor, 1) := by decide +kernel
theorem dX0_eliminate_189 : decode cX0_eliminate 189 = .ok (.iastore, 1) := by decide +kernel
theorem dX0_eliminate_190 : decode cX0_eliminate 190 = .ok (.iinc 6 1, 3) := by decide +kernel
theorem dX0_eliminate_193 : decode cX0_eliminate 193 = .ok (.goto (-55), 3) := by decide +kernel
theorem dX0_eliminate_196 : decode cX0_eliminate 196 = .ok (.iinc 4 1, 3) := by decide +kernel
theorem dX0_eliminate_199 : decode cX0_eliminate 199 = .ok (.goto (-87), 3) := by decide +kernel
theorem dX0_eliminate_202 : decode cX0_eliminate 202 = .ok (.return_, 1) := by decide +kernel
theorem dX0_putBack_0 : decode cX0_putBack 0 = .ok (.aload_n 0, 1) := by decide +kernel
theorem dX0_putBack_1 : decode cX0_putBack 1 = .ok (.getfield 32, 3) := by decide +kernel
theorem dX0_putBack_4 : decode cX0_putBack 4 = .ok (.iload_n 1, 1) := by decide +kernel
theorem dX0_putBack_5 : decode cX0_putBack 5 = .ok (.iaload, 1) := by decide +kernel
theorem dX0_putBack_6 : decode cX0_putBack 6 = .ok (.istore_n 2, 1) := by decide +kernel
theorem dX0_putBack_7 : decode cX0_putBack 7 = .ok (.iconst 0, 1) := by decide +kernel
theorem dX0_putBack_8 : decode cX0_putBack 8 = .ok (.istore_n 3, 1) := by decide +kernel
theorem dX0_putBack_9 : decode cX0_putBack 9 = .ok (.iload_n 3, 1) := by decide +kernel
theorem dX0_putBack_10 : decode cX0_putBack 10 = .ok (.bipush 8, 2) := by decide +kernel
theorem dX0_putBack_12 : decode cX0_putBack 12 = .ok (.if_icmp .ge 36, 3) := by decide +kernel
theorem dX0_putBack_15 : decode cX0_putBack 15 = .ok (.aload_n 0, 1) := by decide +kernel
theorem dX0_putBack_16 : decode cX0_putBack 16 = .ok (.getfield 16, 3) := by decide +kernel
theorem dX0_putBack_19 : decode cX0_putBack 19 = .ok (.iload_n 2, 1) := by decide +kernel
theorem dX0_putBack_20 : decode cX0_putBack 20 = .ok (.bipush 8, 2) := by decide +kernel
theorem dX0_putBack_22 : decode cX0_putBack 22 = .ok (.imul, 1) := by decide +kernel
theorem dX0_putBack_23 : decode cX0_putBack 23 = .ok (.iload_n 3, 1) := by decide +kernel
theorem dX0_putBack_24 : decode cX0_putBack 24 = .ok (.iadd, 1) := by decide +kernel
theorem dX0_putBack_25 : decode cX0_putBack 25 = .ok (.aload_n 0, 1) := by decide +kernel
theorem dX0_putBack_26 : decode cX0_putBack 26 = .ok (.getfield 38, 3) := by decide +kernel
theorem dX0_putBack_29 : decode cX0_putBack 29 = .ok (.iload_n 1, 1) := by decide +kernel
theorem dX0_putBack_30 : decode cX0_putBack 30 = .ok (.bipush 12, 2) := by decide +kernel
theorem dX0_putBack_32 : decode cX0_putBack 32 = .ok (.imul, 1) := by decide +kernel
theorem dX0_putBack_33 : decode cX0_putBack 33 = .ok (.aload_n 0, 1) := by decide +kernel
theorem dX0_putBack_34 : decode cX0_putBack 34 = .ok (.getfield 78, 3) := by decide +kernel
theorem dX0_putBack_37 : decode cX0_putBack 37 = .ok (.iadd, 1) := by decide +kernel
theorem dX0_putBack_38 : decode cX0_putBack 38 = .ok (.iload_n 3, 1) := by decide +kernel
theorem dX0_putBack_39 : decode cX0_putBack 39 = .ok (.iadd, 1) := by decide +kernel
theorem dX0_putBack_40 : decode cX0_putBack 40 = .ok (.iaload, 1) := by decide +kernel
theorem dX0_putBack_41 : decode cX0_putBack 41 = .ok (.iastore, 1) := by decide +kernel
theorem dX0_putBack_42 : decode cX0_putBack 42 = .ok (.iinc 3 1, 3) := by decide +kernel
theorem dX0_putBack_45 : decode cX0_putBack 45 = .ok (.goto (-36), 3) := by decide +kernel
theorem dX0_putBack_48 : decode cX0_putBack 48 = .ok (.aload_n 0, 1) := by decide +kernel
theorem dX0_putBack_49 : decode cX0_putBack 49 = .ok (.getfield 19, 3) := by decide +kernel
theorem dX0_putBack_52 : decode cX0_putBack 52 = .ok (.iload_n 2, 1) := by decide +kernel
theorem dX0_putBack_53 : decode cX0_putBack 53 = .ok (.iconst 1, 1) := by decide +kernel
theorem dX0_putBack_54 : decode cX0_putBack 54 = .ok (.bastore, 1) := by decide +kernel
theorem dX0_putBack_55 : decode cX0_putBack 55 = .ok (.aload_n 0, 1) := by decide +kernel
theorem dX0_putBack_56 : decode cX0_putBack 56 = .ok (.getfield 23, 3) := by decide +kernel
theorem dX0_putBack_59 : decode cX0_putBack 59 = .ok (.iload_n 2, 1) := by decide +kernel
theorem dX0_putBack_60 : decode cX0_putBack 60 = .ok (.aload_n 0, 1) := by decide +kernel
theorem dX0_putBack_61 : decode cX0_putBack 61 = .ok (.iload_n 2, 1) := by decide +kernel
theorem dX0_putBack_62 : decode cX0_putBack 62 = .ok (.invokevirtual 41, 3) := by decide +kernel
theorem dX0_putBack_65 : decode cX0_putBack 65 = .ok (.iastore, 1) := by decide +kernel
theorem dX0_putBack_66 : decode cX0_putBack 66 = .ok (.return_, 1) := by decide +kernel
theorem dX0_giveUp_0 : decode cX0_giveUp 0 = .ok (.aload_n 0, 1) := by decide +kernel
theorem dX0_giveUp_1 : decode cX0_giveUp 1 = .ok (.invokevirtual 91, 3) := by decide +kernel
theorem dX0_giveUp_4 : decode cX0_giveUp 4 = .ok (.iconst 0, 1) := by decide +kernel
theorem dX0_giveUp_5 : decode cX0_giveUp 5 = .ok (.istore_n 1, 1) := by decide +kernel
theorem dX0_giveUp_6 : decode cX0_giveUp 6 = .ok (.iload_n 1, 1) := by decide +kernel
theorem dX0_giveUp_7 : decode cX0_giveUp 7 = .ok (.aload_n 0, 1) := by decide +kernel
theorem dX0_giveUp_8 : decode cX0_giveUp 8 = .ok (.getfield 78, 3) := by decide +kernel
theorem dX0_giveUp_11 : decode cX0_giveUp 11 = .ok (.if_icmp .ge 60, 3) := by decide +kernel
theorem dX0_giveUp_14 : decode cX0_giveUp 14 = .ok (.aload_n 0, 1) := by decide +kernel
theorem dX0_giveUp_15 : decode cX0_giveUp 15 = .ok (.getfield 32, 3) := by decide +kernel
theorem dX0_giveUp_18 : decode cX0_giveUp 18 = .ok (.iload_n 1, 1) := by decide +kernel
theorem dX0_giveUp_19 : decode cX0_giveUp 19 = .ok (.iaload, 1) := by decide +kernel
theorem dX0_giveUp_20 : decode cX0_giveUp 20 = .ok (.istore_n 2, 1) := by decide +kernel
theorem dX0_giveUp_21 : decode cX0_giveUp 21 = .ok (.iconst 0, 1) := by decide +kernel
theorem dX0_giveUp_22 : decode cX0_giveUp 22 = .ok (.istore_n 3, 1) := by decide +kernel
theorem dX0_giveUp_23 : decode cX0_giveUp 23 = .ok (.iload_n 3, 1) := by decide +kernel
theorem dX0_giveUp_24 : decode cX0_giveUp 24 = .ok (.bipush 8, 2) := by decide +kernel
theorem dX0_giveUp_26 : decode cX0_giveUp 26 = .ok (.if_icmp .ge 21, 3) := by decide +kernel
theorem dX0_giveUp_29 : decode cX0_giveUp 29 = .ok (.aload_n 0, 1) := by decide +kernel
theorem dX0_giveUp_30 : decode cX0_giveUp 30 = .ok (.getfield 16, 3) := by decide +kernel
theorem dX0_giveUp_33 : decode cX0_giveUp 33 = .ok (.iload_n 2, 1) := by decide +kernel
theorem dX0_giveUp_34 : decode cX0_giveUp 34 = .ok (.bipush 8, 2) := by decide +kernel
theorem dX0_giveUp_36 : decode cX0_giveUp 36 = .ok (.imul, 1) := by decide +kernel
theorem dX0_giveUp_37 : decode cX0_giveUp 37 = .ok (.iload_n 3, 1) := by decide +kernel
theorem dX0_giveUp_38 : decode cX0_giveUp 38 = .ok (.iadd, 1) := by decide +kernel
theorem dX0_giveUp_39 : decode cX0_giveUp 39 = .ok (.iconst 0, 1) := by decide +kernel
theorem dX0_giveUp_40 : decode cX0_giveUp 40 = .ok (.iastore, 1) := by decide +kernel
theorem dX0_giveUp_41 : decode cX0_giveUp 41 = .ok (.iinc 3 1, 3) := by decide +kernel
theorem dX0_giveUp_44 : decode cX0_giveUp 44 = .ok (.goto (-21), 3) := by decide +kernel
theorem dX0_giveUp_47 : decode cX0_giveUp 47 = .ok (.aload_n 0, 1) := by decide +kernel
theorem dX0_giveUp_48 : decode cX0_giveUp 48 = .ok (.getfield 19, 3) := by decide +kernel
theorem dX0_giveUp_51 : decode cX0_giveUp 51 = .ok (.iload_n 2, 1) := by decide +kernel
theorem dX0_giveUp_52 : decode cX0_giveUp 52 = .ok (.iconst 1, 1) := by decide +kernel
theorem dX0_giveUp_53 : decode cX0_giveUp 53 = .ok (.bastore, 1) := by decide +kernel
theorem dX0_giveUp_54 : decode cX0_giveUp 54 = .ok (.aload_n 0, 1) := by decide +kernel
theorem dX0_giveUp_55 : decode cX0_giveUp 55 = .ok (.getfield 23, 3) := by decide +kernel
theorem dX0_giveUp_58 : decode cX0_giveUp 58 = .ok (.iload_n 2, 1) := by decide +kernel
theorem dX0_giveUp_59 : decode cX0_giveUp 59 = .ok (.aload_n 0, 1) := by decide +kernel
theorem dX0_giveUp_60 : decode cX0_giveUp 60 = .ok (.iload_n 2, 1) := by decide +kernel
theorem dX0_giveUp_61 : decode cX0_giveUp 61 = .ok (.invokevirtual 41, 3) := by decide +kernel
theorem dX0_giveUp_64 : decode cX0_giveUp 64 = .ok (.iastore, 1) := by decide +kernel
theorem dX0_giveUp_65 : decode cX0_giveUp 65 = .ok (.iinc 1 1, 3) := by decide +kernel
theorem dX0_giveUp_68 : decode cX0_giveUp 68 = .ok (.goto (-62), 3) := by decide +kernel
theorem dX0_giveUp_71 : decode cX0_giveUp 71 = .ok (.aload_n 0, 1) := by decide +kernel
theorem dX0_giveUp_72 : decode cX0_giveUp 72 = .ok (.iconst 0, 1) := by decide +kernel
theorem dX0_giveUp_73 : decode cX0_giveUp 73 = .ok (.putfield 59, 3) := by decide +kernel
theorem dX0_giveUp_76 : decode cX0_giveUp 76 = .ok (.aload_n 0, 1) := by decide +kernel
theorem dX0_giveUp_77 : decode cX0_giveUp 77 = .ok (.getfield 78, 3) := by decide +kernel
theorem dX0_giveUp_80 : decode cX0_giveUp 80 = .ok (.ireturn, 1) := by decide +kernel
theorem dX0_read_0 : decode cX0_read 0 = .ok (.iload_n 1, 1) := by decide +kernel
theorem dX0_read_1 : decode cX0_read 1 = .ok (.invokestatic 49, 3) := by decide +kernel
theorem dX0_read_4 : decode cX0_read 4 = .ok (.ifCond .eq 5, 3) := by decide +kernel
theorem dX0_read_7 : decode cX0_read 7 = .ok (.iconst (-1), 1) := by decide +kernel
theorem dX0_read_8 : decode cX0_read 8 = .ok (.ireturn, 1) := by decide +kernel
theorem dX0_read_9 : decode cX0_read 9 = .ok (.iload_n 2, 1) := by decide +kernel
theorem dX0_read_10 : decode cX0_read 10 = .ok (.invokestatic 53, 3) := by decide +kernel
theorem dX0_read_13 : decode cX0_read 13 = .ok (.ifCond .eq 6, 3) := by decide +kernel
theorem dX0_read_16 : decode cX0_read 16 = .ok (.bipush (-2), 2) := by decide +kernel
theorem dX0_read_18 : decode cX0_read 18 = .ok (.ireturn, 1) := by decide +kernel
theorem dX0_read_19 : decode cX0_read 19 = .ok (.aload_n 0, 1) := by decide +kernel
theorem dX0_read_20 : decode cX0_read 20 = .ok (.iload_n 1, 1) := by decide +kernel
theorem dX0_read_21 : decode cX0_read 21 = .ok (.invokevirtual 56, 3) := by decide +kernel
theorem dX0_read_24 : decode cX0_read 24 = .ok (.istore_n 3, 1) := by decide +kernel
theorem dX0_read_25 : decode cX0_read 25 = .ok (.iload_n 3, 1) := by decide +kernel
theorem dX0_read_26 : decode cX0_read 26 = .ok (.ifCond .ne 17, 3) := by decide +kernel
theorem dX0_read_29 : decode cX0_read 29 = .ok (.aload_n 0, 1) := by decide +kernel
theorem dX0_read_30 : decode cX0_read 30 = .ok (.getfield 16, 3) := by decide +kernel
theorem dX0_read_33 : decode cX0_read 33 = .ok (.iload_n 1, 1) := by decide +kernel
theorem dX0_read_34 : decode cX0_read 34 = .ok (.bipush 8, 2) := by decide +kernel
theorem dX0_read_36 : decode cX0_read 36 = .ok (.imul, 1) := by decide +kernel
theorem dX0_read_37 : decode cX0_read 37 = .ok (.iload_n 2, 1) := by decide +kernel
theorem dX0_read_38 : decode cX0_read 38 = .ok (.iadd, 1) := by decide +kernel
theorem dX0_read_39 : decode cX0_read 39 = .ok (.iaload, 1) := by decide +kernel
theorem dX0_read_40 : decode cX0_read 40 = .ok (.goto 5, 3) := by decide +kernel
theorem dX0_read_43 : decode cX0_read 43 = .ok (.bipush (-4), 2) := by decide +kernel
theorem dX0_read_45 : decode cX0_read 45 = .ok (.ireturn, 1) := by decide +kernel
theorem dX0_state_0 : decode cX0_state 0 = .ok (.iload_n 1, 1) := by decide +kernel
theorem dX0_state_1 : decode cX0_state 1 = .ok (.invokestatic 49, 3) := by decide +kernel
theorem dX0_state_4 : decode cX0_state 4 = .ok (.ifCond .eq 7, 3) := by decide +kernel
theorem dX0_state_7 : decode cX0_state 7 = .ok (.iconst (-1), 1) := by decide +kernel
theorem dX0_state_8 : decode cX0_state 8 = .ok (.goto 8, 3) := by decide +kernel
theorem dX0_state_11 : decode cX0_state 11 = .ok (.aload_n 0, 1) := by decide +kernel
theorem dX0_state_12 : decode cX0_state 12 = .ok (.iload_n 1, 1) := by decide +kernel
theorem dX0_state_13 : decode cX0_state 13 = .ok (.invokevirtual 56, 3) := by decide +kernel
theorem dX0_state_16 : decode cX0_state 16 = .ok (.ireturn, 1) := by decide +kernel
theorem dX0_spare_0 : decode cX0_spare 0 = .ok (.aload_n 0, 1) := by decide +kernel
theorem dX0_spare_1 : decode cX0_spare 1 = .ok (.invokevirtual 94, 3) := by decide +kernel
theorem dX0_spare_4 : decode cX0_spare 4 = .ok (.ireturn, 1) := by decide +kernel
theorem dX0_margin_0 : decode cX0_margin 0 = .ok (.aload_n 0, 1) := by decide +kernel
theorem dX0_margin_1 : decode cX0_margin 1 = .ok (.invokevirtual 70, 3) := by decide +kernel
theorem dX0_margin_4 : decode cX0_margin 4 = .ok (.istore_n 1, 1) := by decide +kernel
theorem dX0_margin_5 : decode cX0_margin 5 = .ok (.aload_n 0, 1) := by decide +kernel
theorem dX0_margin_6 : decode cX0_margin 6 = .ok (.invokevirtual 94, 3) := by decide +kernel
theorem dX0_margin_9 : decode cX0_margin 9 = .ok (.istore_n 2, 1) := by decide +kernel
theorem dX0_margin_10 : decode cX0_margin 10 = .ok (.iload_n 1, 1) := by decide +kernel
theorem dX0_margin_11 : decode cX0_margin 11 = .ok (.iload_n 2, 1) := by decide +kernel
theorem dX0_margin_12 : decode cX0_margin 12 = .ok (.if_icmp .le 6, 3) := by decide +kernel
theorem dX0_margin_15 : decode cX0_margin 15 = .ok (.bipush (-6), 2) := by decide +kernel
theorem dX0_margin_17 : decode cX0_margin 17 = .ok (.ireturn, 1) := by decide +kernel
theorem dX0_margin_18 : decode cX0_margin 18 = .ok (.bipush 6, 2) := by decide +kernel
theorem dX0_margin_20 : decode cX0_margin 20 = .ok (.iload_n 1, 1) := by decide +kernel
theorem dX0_margin_21 : decode cX0_margin 21 = .ok (.isub, 1) := by decide +kernel
theorem dX0_margin_22 : decode cX0_margin 22 = .ok (.istore_n 3, 1) := by decide +kernel
theorem dX0_margin_23 : decode cX0_margin 23 = .ok (.iload_n 2, 1) := by decide +kernel
theorem dX0_margin_24 : decode cX0_margin 24 = .ok (.iload_n 1, 1) := by decide +kernel
theorem dX0_margin_25 : decode cX0_margin 25 = .ok (.isub, 1) := by decide +kernel
theorem dX0_margin_26 : decode cX0_margin 26 = .ok (.iload_n 3, 1) := by decide +kernel
theorem dX0_margin_27 : decode cX0_margin 27 = .ok (.if_icmp .ge 9, 3) := by decide +kernel
theorem dX0_margin_30 : decode cX0_margin 30 = .ok (.iload_n 2, 1) := by decide +kernel
theorem dX0_margin_31 : decode cX0_margin 31 = .ok (.iload_n 1, 1) := by decide +kernel
theorem dX0_margin_32 : decode cX0_margin 32 = .ok (.isub, 1) := by decide +kernel
theorem dX0_margin_33 : decode cX0_margin 33 = .ok (.goto 4, 3) := by decide +kernel
theorem dX0_margin_36 : decode cX0_margin 36 = .ok (.iload_n 3, 1) := by decide +kernel
theorem dX0_margin_37 : decode cX0_margin 37 = .ok (.ireturn, 1) := by decide +kernel
end
section
set_option maxRecDepth 100000
theorem dX1_init_0 : decode cX1_init 0 = .ok (.aload_n 0, 1) := by decide +kernel
theorem dX1_init_1 : decode cX1_init 1 = .ok (.invokespecial 1, 3) := by decide +kernel
theorem dX1_init_4 : decode cX1_init 4 = .ok (.aload_n 0, 1) := by decide +kernel
theorem dX1_init_5 : decode cX1_init 5 = .ok (.bipush 48, 2) := by decide +kernel
theorem dX1_init_7 : decode cX1_init 7 = .ok (.newarray .int, 2) := by decide +kernel
theorem dX1_init_9 : decode cX1_init 9 = .ok (.putfield 7, 3) := by decide +kernel
theorem dX1_init_12 : decode cX1_init 12 = .ok (.aload_n 0, 1) := by decide +kernel
theorem dX1_init_13 : decode cX1_init 13 = .ok (.bipush 6, 2) := by decide +kernel
theorem dX1_init_15 : decode cX1_init 15 = .ok (.newarray .int, 2) := by decide +kernel
theorem dX1_init_17 : decode cX1_init 17 = .ok (.putfield 13, 3) := by decide +kernel
theorem dX1_init_20 : decode cX1_init 20 = .ok (.aload_n 0, 1) := by decide +kernel
theorem dX1_init_21 : decode cX1_init 21 = .ok (.iconst 4, 1) := by decide +kernel
theorem dX1_init_22 : decode cX1_init 22 = .ok (.newarray .boolean, 2) := by decide +kernel
theorem dX1_init_24 : decode cX1_init 24 = .ok (.putfield 16, 3) := by decide +kernel
theorem dX1_init_27 : decode cX1_init 27 = .ok (.return_, 1) := by decide +kernel
theorem dX1_write_0 : decode cX1_write 0 = .ok (.aload_n 0, 1) := by decide +kernel
theorem dX1_write_1 : decode cX1_write 1 = .ok (.iload_n 1, 1) := by decide +kernel
theorem dX1_write_2 : decode cX1_write 2 = .ok (.iload_n 2, 1) := by decide +kernel
theorem dX1_write_3 : decode cX1_write 3 = .ok (.iload_n 3, 1) := by decide +kernel
theorem dX1_write_4 : decode cX1_write 4 = .ok (.invokevirtual 20, 3) := by decide +kernel
theorem dX1_write_7 : decode cX1_write 7 = .ok (.istore 4, 2) := by decide +kernel
theorem dX1_write_9 : decode cX1_write 9 = .ok (.iload 4, 2) := by decide +kernel
theorem dX1_write_11 : decode cX1_write 11 = .ok (.ifCond .ge 6, 3) := by decide +kernel
theorem dX1_write_14 : decode cX1_write 14 = .ok (.iload 4, 2) := by decide +kernel
theorem dX1_write_16 : decode cX1_write 16 = .ok (.ireturn, 1) := by decide +kernel
theorem dX1_write_17 : decode cX1_write 17 = .ok (.aload_n 0, 1) := by decide +kernel
theorem dX1_write_18 : decode cX1_write 18 = .ok (.getfield 7, 3) := by decide +kernel
theorem dX1_write_21 : decode cX1_write 21 = .ok (.iload_n 1, 1) := by decide +kernel
theorem dX1_write_22 : decode cX1_write 22 = .ok (.bipush 8, 2) := by decide +kernel
theorem dX1_write_24 : decode cX1_write 24 = .ok (.imul, 1) := by decide +kernel
theorem dX1_write_25 : decode cX1_write 25 = .ok (.iload_n 2, 1) := by decide +kernel
theorem dX1_write_26 : decode cX1_write 26 = .ok (.iadd, 1) := by decide +kernel
theorem dX1_write_27 : decode cX1_write 27 = .ok (.iaload, 1) := by decide +kernel
theorem dX1_write_28 : decode cX1_write 28 = .ok (.istore 5, 2) := by decide +kernel
theorem dX1_write_30 : decode cX1_write 30 = .ok (.aload_n 0, 1) := by decide +kernel
theorem dX1_write_31 : decode cX1_write 31 = .ok (.getfield 7, 3) := by decide +kernel
theorem dX1_write_34 : decode cX1_write 34 = .ok (.iload_n 1, 1) := by decide +kernel
theorem dX1_write_35 : decode cX1_write 35 = .ok (.bipush 8, 2) := by decide +kernel
theorem dX1_write_37 : decode cX1_write 37 = .ok (.imul, 1) := by decide +kernel
theorem dX1_write_38 : decode cX1_write 38 = .ok (.iload_n 2, 1) := by decide +kernel
theorem dX1_write_39 : decode cX1_write 39 = .ok (.iadd, 1) := by decide +kernel
theorem dX1_write_40 : decode cX1_write 40 = .ok (.iload_n 3, 1) := by decide +kernel
theorem dX1_write_41 : decode cX1_write 41 = .ok (.iastore, 1) := by decide +kernel
theorem dX1_write_42 : decode cX1_write 42 = .ok (.iload 5, 2) := by decide +kernel
theorem dX1_write_44 : decode cX1_write 44 = .ok (.ireturn, 1) := by decide +kernel
theorem dX1_refusal_0 : decode cX1_refusal 0 = .ok (.iload_n 1, 1) := by decide +kernel
theorem dX1_refusal_1 : decode cX1_refusal 1 = .ok (.ifCond .lt 8, 3) := by decide +kernel
theorem dX1_refusal_4 : decode cX1_refusal 4 = .ok (.iload_n 1, 1) := by decide +kernel
theorem dX1_refusal_5 : decode cX1_refusal 5 = .ok (.iconst 5, 1) := by decide +kernel
theorem dX1_refusal_6 : decode cX1_refusal 6 = .ok (.if_icmp .le 5, 3) := by decide +kernel
theorem dX1_refusal_9 : decode cX1_refusal 9 = .ok (.iconst (-1), 1) := by decide +kernel
theorem dX1_refusal_10 : decode cX1_refusal 10 = .ok (.ireturn, 1) := by decide +kernel
theorem dX1_refusal_11 : decode cX1_refusal 11 = .ok (.iload_n 2, 1) := by decide +kernel
theorem dX1_refusal_12 : decode cX1_refusal 12 = .ok (.ifCond .lt 9, 3) := by decide +kernel
theorem dX1_refusal_15 : decode cX1_refusal 15 = .ok (.iload_n 2, 1) := by decide +kernel
theorem dX1_refusal_16 : decode cX1_refusal 16 = .ok (.bipush 7, 2) := by decide +kernel
theorem dX1_refusal_18 : decode cX1_refusal 18 = .ok (.if_icmp .le 6, 3) := by decide +kernel
theorem dX1_refusal_21 : decode cX1_refusal 21 = .ok (.bipush (-2), 2) := by decide +kernel
theorem dX1_refusal_23 : decode cX1_refusal 23 = .ok (.ireturn, 1) := by decide +kernel
theorem dX1_refusal_24 : decode cX1_refusal 24 = .ok (.iload_n 3, 1) := by decide +kernel
theorem dX1_refusal_25 : decode cX1_refusal 25 = .ok (.ifCond .lt 10, 3) := by decide +kernel
theorem dX1_refusal_28 : decode cX1_refusal 28 = .ok (.iload_n 3, 1) := by decide +kernel
theorem dX1_refusal_29 : decode cX1_refusal 29 = .ok (.sipush 255, 3) := by decide +kernel
theorem dX1_refusal_32 : decode cX1_refusal 32 = .ok (.if_icmp .le 6, 3) := by decide +kernel
theorem dX1_refusal_35 : decode cX1_refusal 35 = .ok (.bipush (-3), 2) := by decide +kernel
theorem dX1_refusal_37 : decode cX1_refusal 37 = .ok (.ireturn, 1) := by decide +kernel
theorem dX1_refusal_38 : decode cX1_refusal 38 = .ok (.aload_n 0, 1) := by decide +kernel
theorem dX1_refusal_39 : decode cX1_refusal 39 = .ok (.getfield 13, 3) := by decide +kernel
theorem dX1_refusal_42 : decode cX1_refusal 42 = .ok (.iload_n 1, 1) := by decide +kernel
theorem dX1_refusal_43 : decode cX1_refusal 43 = .ok (.iaload, 1) := by decide +kernel
theorem dX1_refusal_44 : decode cX1_refusal 44 = .ok (.ifCond .ne 7, 3) := by decide +kernel
theorem dX1_refusal_47 : decode cX1_refusal 47 = .ok (.iconst 0, 1) := by decide +kernel
theorem dX1_refusal_48 : decode cX1_refusal 48 = .ok (.goto 5, 3) := by decide +kernel
theorem dX1_refusal_51 : decode cX1_refusal 51 = .ok (.bipush (-4), 2) := by decide +kernel
theorem dX1_refusal_53 : decode cX1_refusal 53 = .ok (.ireturn, 1) := by decide +kernel
theorem dX1_protect_0 : decode cX1_protect 0 = .ok (.iload_n 1, 1) := by decide +kernel
theorem dX1_protect_1 : decode cX1_protect 1 = .ok (.ifCond .lt 8, 3) := by decide +kernel
theorem dX1_protect_4 : decode cX1_protect 4 = .ok (.iload_n 1, 1) := by decide +kernel
theorem dX1_protect_5 : decode cX1_protect 5 = .ok (.iconst 4, 1) := by decide +kernel
theorem dX1_protect_6 : decode cX1_protect 6 = .ok (.if_icmp .le 6, 3) := by decide +kernel
theorem dX1_protect_9 : decode cX1_protect 9 = .ok (.bipush (-3), 2) := by decide +kernel
theorem dX1_protect_11 : decode cX1_protect 11 = .ok (.ireturn, 1) := by decide +kernel
theorem dX1_protect_12 : decode cX1_protect 12 = .ok (.aload_n 0, 1) := by decide +kernel
theorem dX1_protect_13 : decode cX1_protect 13 = .ok (.invokevirtual 24, 3) := by decide +kernel
theorem dX1_protect_16 : decode cX1_protect 16 = .ok (.ifCond .le 6, 3) := by decide +kernel
theorem dX1_protect_19 : decode cX1_protect 19 = .ok (.bipush (-4), 2) := by decide +kernel
theorem dX1_protect_21 : decode cX1_protect 21 = .ok (.ireturn, 1) := by decide +kernel
theorem dX1_protect_22 : decode cX1_protect 22 = .ok (.aload_n 0, 1) := by decide +kernel
theorem dX1_protect_23 : decode cX1_protect 23 = .ok (.iload_n 1, 1) := by decide +kernel
theorem dX1_protect_24 : decode cX1_protect 24 = .ok (.putfield 28, 3) := by decide +kernel
theorem dX1_protect_27 : decode cX1_protect 27 = .ok (.iconst 0, 1) := by decide +kernel
theorem dX1_protect_28 : decode cX1_protect 28 = .ok (.istore_n 2, 1) := by decide +kernel
theorem dX1_protect_29 : decode cX1_protect 29 = .ok (.iload_n 2, 1) := by decide +kernel
theorem dX1_protect_30 : decode cX1_protect 30 = .ok (.iconst 4, 1) := by decide +kernel
theorem dX1_protect_31 : decode cX1_protect 31 = .ok (.if_icmp .ge 16, 3) := by decide +kernel
theorem dX1_protect_34 : decode cX1_protect 34 = .ok (.aload_n 0, 1) := by decide +kernel
theorem dX1_protect_35 : decode cX1_protect 35 = .ok (.getfield 16, 3) := by decide +kernel
theorem dX1_protect_38 : decode cX1_protect 38 = .ok (.iload_n 2, 1) := by decide +kernel
theorem dX1_protect_39 : decode cX1_protect 39 = .ok (.iconst 0, 1) := by decide +kernel
theorem dX1_protect_40 : decode cX1_protect 40 = .ok (.bastore, 1) := by decide +kernel
theorem dX1_protect_41 : decode cX1_protect 41 = .ok (.iinc 2 1, 3) := by decide +kernel
theorem dX1_protect_44 : decode cX1_protect 44 = .ok (.goto (-15), 3) := by decide +kernel
theorem dX1_protect_47 : decode cX1_protect 47 = .ok (.iload_n 1, 1) := by decide +kernel
theorem dX1_protect_48 : decode cX1_protect 48 = .ok (.ireturn, 1) := by decide +kernel
theorem dX1_notGood_0 : decode cX1_notGood 0 = .ok (.iconst 0, 1) := by decide +kernel
theorem dX1_notGood_1 : decode cX1_notGood 1 = .ok (.istore_n 1, 1) := by decide +kernel
theorem dX1_notGood_2 : decode cX1_notGood 2 = .ok (.iconst 0, 1) := by decide +kernel
theorem dX1_notGood_3 : decode cX1_notGood 3 = .ok (.istore_n 2, 1) := by decide +kernel
theorem dX1_notGood_4 : decode cX1_notGood 4 = .ok (.iload_n 2, 1) := by decide +kernel
theorem dX1_notGood_5 : decode cX1_notGood 5 = .ok (.bipush 6, 2) := by decide +kernel
theorem dX1_notGood_7 : decode cX1_notGood 7 = .ok (.if_icmp .ge 21, 3) := by decide +kernel
theorem dX1_notGood_10 : decode cX1_notGood 10 = .ok (.aload_n 0, 1) := by decide +kernel
theorem dX1_notGood_11 : decode cX1_notGood 11 = .ok (.getfield 13, 3) := by decide +kernel
theorem dX1_notGood_14 : decode cX1_notGood 14 = .ok (.iload_n 2, 1) := by decide +kernel
theorem dX1_notGood_15 : decode cX1_notGood 15 = .ok (.iaload, 1) := by decide +kernel
theorem dX1_notGood_16 : decode cX1_notGood 16 = .ok (.ifCond .eq 6, 3) := by decide +kernel
theorem dX1_notGood_19 : decode cX1_notGood 19 = .ok (.iinc 1 1, 3) := by decide +kernel
theorem dX1_notGood_22 : decode cX1_notGood 22 = .ok (.iinc 2 1, 3) := by decide +kernel
theorem dX1_notGood_25 : decode cX1_notGood 25 = .ok (.goto (-21), 3) := by decide +kernel
theorem dX1_notGood_28 : decode cX1_notGood 28 = .ok (.iload_n 1, 1) := by decide +kernel
theorem dX1_notGood_29 : decode cX1_notGood 29 = .ok (.ireturn, 1) := by decide +kernel
theorem dX1_lose_0 : decode cX1_lose 0 = .ok (.iload_n 1, 1) := by decide +kernel
theorem dX1_lose_1 : decode cX1_lose 1 = .ok (.ifCond .lt 8, 3) := by decide +kernel
theorem dX1_lose_4 : decode cX1_lose 4 = .ok (.iload_n 1, 1) := by decide +kernel
theorem dX1_lose_5 : decode cX1_lose 5 = .ok (.iconst 5, 1) := by decide +kernel
theorem dX1_lose_6 : decode cX1_lose 6 = .ok (.if_icmp .le 5, 3) := by decide +kernel
theorem dX1_lose_9 : decode cX1_lose 9 = .ok (.iconst (-1), 1) := by decide +kernel
theorem dX1_lose_10 : decode cX1_lose 10 = .ok (.ireturn, 1) := by decide +kernel
theorem dX1_lose_11 : decode cX1_lose 11 = .ok (.aload_n 0, 1) := by decide +kernel
theorem dX1_lose_12 : decode cX1_lose 12 = .ok (.getfield 13, 3) := by decide +kernel
theorem dX1_lose_15 : decode cX1_lose 15 = .ok (.iload_n 1, 1) := by decide +kernel
theorem dX1_lose_16 : decode cX1_lose 16 = .ok (.iaload, 1) := by decide +kernel
theorem dX1_lose_17 : decode cX1_lose 17 = .ok (.istore_n 2, 1) := by decide +kernel
theorem dX1_lose_18 : decode cX1_lose 18 = .ok (.aload_n 0, 1) := by decide +kernel
theorem dX1_lose_19 : decode cX1_lose 19 = .ok (.getfield 13, 3) := by decide +kernel
theorem dX1_lose_22 : decode cX1_lose 22 = .ok (.iload_n 1, 1) := by decide +kernel
theorem dX1_lose_23 : decode cX1_lose 23 = .ok (.iconst 1, 1) := by decide +kernel
theorem dX1_lose_24 : decode cX1_lose 24 = .ok (.iastore, 1) := by decide +kernel
theorem dX1_lose_25 : decode cX1_lose 25 = .ok (.iload_n 2, 1) := by decide +kernel
theorem dX1_lose_26 : decode cX1_lose 26 = .ok (.ireturn, 1) := by decide +kernel
theorem dX1_loseRecovery_0 : decode cX1_loseRecovery 0 = .ok (.iload_n 1, 1) := by decide +kernel
theorem dX1_loseRecovery_1 : decode cX1_loseRecovery 1 = .ok (.ifCond .lt 11, 3) := by decide +kernel
theorem dX1_loseRecovery_4 : decode cX1_loseRecovery 4 = .ok (.iload_n 1, 1) := by decide +kernel
theorem dX1_loseRecovery_5 : decode cX1_loseRecovery 5 = .ok (.aload_n 0, 1) := by decide +kernel
theorem dX1_loseRecovery_6 : decode cX1_loseRecovery 6 = .ok (.getfield 28, 3) := by decide +kernel
theorem dX1_loseRecovery_9 : decode cX1_loseRecovery 9 = .ok (.if_icmp .lt 6, 3) := by decide +kernel
theorem dX1_loseRecovery_12 : decode cX1_loseRecovery 12 = .ok (.bipush (-5), 2) := by decide +kernel
theorem dX1_loseRecovery_14 : decode cX1_loseRecovery 14 = .ok (.ireturn, 1) := by decide +kernel
theorem dX1_loseRecovery_15 : decode cX1_loseRecovery 15 = .ok (.aload_n 0, 1) := by decide +kernel
theorem dX1_loseRecovery_16 : decode cX1_loseRecovery 16 = .ok (.getfield 16, 3) := by decide +kernel
theorem dX1_loseRecovery_19 : decode cX1_loseRecovery 19 = .ok (.iload_n 1, 1) := by decide +kernel
theorem dX1_loseRecovery_20 : decode cX1_loseRecovery 20 = .ok (.baload, 1) := by decide +kernel
theorem dX1_loseRecovery_21 : decode cX1_loseRecovery 21 = .ok (.ifCond .eq 7, 3) := by decide +kernel
theorem dX1_loseRecovery_24 : decode cX1_loseRecovery 24 = .ok (.iconst 1, 1) := by decide +kernel
theorem dX1_loseRecovery_25 : decode cX1_loseRecovery 25 = .ok (.goto 4, 3) := by decide +kernel
theorem dX1_loseRecovery_28 : decode cX1_loseRecovery 28 = .ok (.iconst 0, 1) := by decide +kernel
theorem dX1_loseRecovery_29 : decode cX1_loseRecovery 29 = .ok (.istore_n 2, 1) := by decide +kernel
theorem dX1_loseRecovery_30 : decode cX1_loseRecovery 30 = .ok (.aload_n 0, 1) := by decide +kernel
theorem dX1_loseRecovery_31 : decode cX1_loseRecovery 31 = .ok (.getfield 16, 3) := by decide +kernel
theorem dX1_loseRecovery_34 : decode cX1_loseRecovery 34 = .ok (.iload_n 1, 1) := by decide +kernel
theorem dX1_loseRecovery_35 : decode cX1_loseRecovery 35 = .ok (.iconst 1, 1) := by decide +kernel
theorem dX1_loseRecovery_36 : decode cX1_loseRecovery 36 = .ok (.bastore, 1) := by decide +kernel
theorem dX1_loseRecovery_37 : decode cX1_loseRecovery 37 = .ok (.iload_n 2, 1) := by decide +kernel
theorem dX1_loseRecovery_38 : decode cX1_loseRecovery 38 = .ok (.ireturn, 1) := by decide +kernel
theorem dX1_spoil_0 : decode cX1_spoil 0 = .ok (.aload_n 0, 1) := by decide +kernel
theorem dX1_spoil_1 : decode cX1_spoil 1 = .ok (.iload_n 1, 1) := by decide +kernel
theorem dX1_spoil_2 : decode cX1_spoil 2 = .ok (.iload_n 2, 1) := by decide +kernel
theorem dX1_spoil_3 : decode cX1_spoil 3 = .ok (.iconst 0, 1) := by decide +kernel
theorem dX1_spoil_4 : decode cX1_spoil 4 = .ok (.invokevirtual 20, 3) := by decide +kernel
theorem dX1_spoil_7 : decode cX1_spoil 7 = .ok (.istore 4, 2) := by decide +kernel
theorem dX1_spoil_9 : decode cX1_spoil 9 = .ok (.iload 4, 2) := by decide +kernel
theorem dX1_spoil_11 : decode cX1_spoil 11 = .ok (.ifCond .ge 6, 3) := by decide +kernel
theorem dX1_spoil_14 : decode cX1_spoil 14 = .ok (.iload 4, 2) := by decide +kernel
theorem dX1_spoil_16 : decode cX1_spoil 16 = .ok (.ireturn, 1) := by decide +kernel
theorem dX1_spoil_17 : decode cX1_spoil 17 = .ok (.iload_n 3, 1) := by decide +kernel
theorem dX1_spoil_18 : decode cX1_spoil 18 = .ok (.sipush 255, 3) := by decide +kernel
theorem dX1_spoil_21 : decode cX1_spoil 21 = .ok (.iand, 1) := by decide +kernel
theorem dX1_spoil_22 : decode cX1_spoil 22 = .ok (.ifCond .eq 10, 3) := by decide +kernel
theorem dX1_spoil_25 : decode cX1_spoil 25 = .ok (.aload_n 0, 1) := by decide +kernel
theorem dX1_spoil_26 : decode cX1_spoil 26 = .ok (.getfield 13, 3) := by decide +kernel
theorem dX1_spoil_29 : decode cX1_spoil 29 = .ok (.iload_n 1, 1) := by decide +kernel
theorem dX1_spoil_30 : decode cX1_spoil 30 = .ok (.iconst 2, 1) := by decide +kernel
theorem dX1_spoil_31 : decode cX1_spoil 31 = .ok (.iastore, 1) := by decide +kernel
theorem dX1_spoil_32 : decode cX1_spoil 32 = .ok (.aload_n 0, 1) := by decide +kernel
theorem dX1_spoil_33 : decode cX1_spoil 33 = .ok (.getfield 13, 3) := by decide +kernel
theorem dX1_spoil_36 : decode cX1_spoil 36 = .ok (.iload_n 1, 1) := by decide +kernel
theorem dX1_spoil_37 : decode cX1_spoil 37 = .ok (.iaload, 1) := by decide +kernel
theorem dX1_spoil_38 : decode cX1_spoil 38 = .ok (.ireturn, 1) := by decide +kernel
theorem dX1_repair_0 : decode cX1_repair 0 = .ok (.aload_n 0, 1) := by decide +kernel
theorem dX1_repair_1 : decode cX1_repair 1 = .ok (.invokevirtual 24, 3) := by decide +kernel
theorem dX1_repair_4 : decode cX1_repair 4 = .ok (.istore_n 1, 1) := by decide +kernel
theorem dX1_repair_5 : decode cX1_repair 5 = .ok (.iload_n 1, 1) := by decide +kernel
theorem dX1_repair_6 : decode cX1_repair 6 = .ok (.aload_n 0, 1) := by decide +kernel
theorem dX1_repair_7 : decode cX1_repair 7 = .ok (.invokevirtual 32, 3) := by decide +kernel
theorem dX1_repair_10 : decode cX1_repair 10 = .ok (.if_icmp .le 6, 3) := by decide +kernel
theorem dX1_repair_13 : decode cX1_repair 13 = .ok (.bipush (-6), 2) := by decide +kernel
theorem dX1_repair_15 : decode cX1_repair 15 = .ok (.ireturn, 1) := by decide +kernel
theorem dX1_repair_16 : decode cX1_repair 16 = .ok (.iconst 0, 1) := by decide +kernel
theorem dX1_repair_17 : decode cX1_repair 17 = .ok (.istore_n 2, 1) := by decide +kernel
theorem dX1_repair_18 : decode cX1_repair 18 = .ok (.iload_n 2, 1) := by decide +kernel
theorem dX1_repair_19 : decode cX1_repair 19 = .ok (.bipush 6, 2) := by decide +kernel
theorem dX1_repair_21 : decode cX1_repair 21 = .ok (.if_icmp .ge 16, 3) := by decide +kernel
theorem dX1_repair_24 : decode cX1_repair 24 = .ok (.aload_n 0, 1) := by decide +kernel
theorem dX1_repair_25 : decode cX1_repair 25 = .ok (.getfield 13, 3) := by decide +kernel
theorem dX1_repair_28 : decode cX1_repair 28 = .ok (.iload_n 2, 1) := by decide +kernel
theorem dX1_repair_29 : decode cX1_repair 29 = .ok (.iconst 0, 1) := by decide +kernel
theorem dX1_repair_30 : decode cX1_repair 30 = .ok (.iastore, 1) := by decide +kernel
theorem dX1_repair_31 : decode cX1_repair 31 = .ok (.iinc 2 1, 3) := by decide +kernel
theorem dX1_repair_34 : decode cX1_repair 34 = .ok (.goto (-16), 3) := by decide +kernel
theorem dX1_repair_37 : decode cX1_repair 37 = .ok (.iconst 0, 1) := by decide +kernel
theorem dX1_repair_38 : decode cX1_repair 38 = .ok (.istore_n 2, 1) := by decide +kernel
theorem dX1_repair_39 : decode cX1_repair 39 = .ok (.iload_n 2, 1) := by decide +kernel
theorem dX1_repair_40 : decode cX1_repair 40 = .ok (.iconst 4, 1) := by decide +kernel
theorem dX1_repair_41 : decode cX1_repair 41 = .ok (.if_icmp .ge 16, 3) := by decide +kernel
theorem dX1_repair_44 : decode cX1_repair 44 = .ok (.aload_n 0, 1) := by decide +kernel
theorem dX1_repair_45 : decode cX1_repair 45 = .ok (.getfield 16, 3) := by decide +kernel
theorem dX1_repair_48 : decode cX1_repair 48 = .ok (.iload_n 2, 1) := by decide +kernel
theorem dX1_repair_49 : decode cX1_repair 49 = .ok (.iconst 0, 1) := by decide +kernel
theorem dX1_repair_50 : decode cX1_repair 50 = .ok (.bastore, 1) := by decide +kernel
theorem dX1_repair_51 : decode cX1_repair 51 = .ok (.iinc 2 1, 3) := by decide +kernel
theorem dX1_repair_54 : decode cX1_repair 54 = .ok (.goto (-15), 3) := by decide +kernel
theorem dX1_repair_57 : decode cX1_repair 57 = .ok (.iload_n 1, 1) := by decide +kernel
theorem dX1_repair_58 : decode cX1_repair 58 = .ok (.ireturn, 1) := by decide +kernel
theorem dX1_spare_0 : decode cX1_spare 0 = .ok (.iconst 0, 1) := by decide +kernel
theorem dX1_spare_1 : decode cX1_spare 1 = .ok (.istore_n 1, 1) := by decide +kernel
theorem dX1_spare_2 : decode cX1_spare 2 = .ok (.iconst 0, 1) := by decide +kernel
theorem dX1_spare_3 : decode cX1_spare 3 = .ok (.istore_n 2, 1) := by decide +kernel
theorem dX1_spare_4 : decode cX1_spare 4 = .ok (.iload_n 2, 1) := by decide +kernel
theorem dX1_spare_5 : decode cX1_spare 5 = .ok (.aload_n 0, 1) := by decide +kernel
theorem dX1_spare_6 : decode cX1_spare 6 = .ok (.getfield 28, 3) := by decide +kernel
theorem dX1_spare_9 : decode cX1_spare 9 = .ok (.if_icmp .ge 21, 3) := by decide +kernel
theorem dX1_spare_12 : decode cX1_spare 12 = .ok (.aload_n 0, 1) := by decide +kernel
theorem dX1_spare_13 : decode cX1_spare 13 = .ok (.getfield 16, 3) := by decide +kernel
theorem dX1_spare_16 : decode cX1_spare 16 = .ok (.iload_n 2, 1) := by decide +kernel
theorem dX1_spare_17 : decode cX1_spare 17 = .ok (.baload, 1) := by decide +kernel
theorem dX1_spare_18 : decode cX1_spare 18 = .ok (.ifCond .ne 6, 3) := by decide +kernel
theorem dX1_spare_21 : decode cX1_spare 21 = .ok (.iinc 1 1, 3) := by decide +kernel
theorem dX1_spare_24 : decode cX1_spare 24 = .ok (.iinc 2 1, 3) := by decide +kernel
theorem dX1_spare_27 : decode cX1_spare 27 = .ok (.goto (-23), 3) := by decide +kernel
theorem dX1_spare_30 : decode cX1_spare 30 = .ok (.iload_n 1, 1) := by decide +kernel
theorem dX1_spare_31 : decode cX1_spare 31 = .ok (.ireturn, 1) := by decide +kernel
theorem dX1_giveUp_0 : decode cX1_giveUp 0 = .ok (.aload_n 0, 1) := by decide +kernel
theorem dX1_giveUp_1 : decode cX1_giveUp 1 = .ok (.invokevirtual 24, 3) := by decide +kernel
theorem dX1_giveUp_4 : decode cX1_giveUp 4 = .ok (.istore_n 1, 1) := by decide +kernel
theorem dX1_giveUp_5 : decode cX1_giveUp 5 = .ok (.iconst 0, 1) := by decide +kernel
theorem dX1_giveUp_6 : decode cX1_giveUp 6 = .ok (.istore_n 2, 1) := by decide +kernel
theorem dX1_giveUp_7 : decode cX1_giveUp 7 = .ok (.iload_n 2, 1) := by decide +kernel
theorem dX1_giveUp_8 : decode cX1_giveUp 8 = .ok (.bipush 48, 2) := by decide +kernel
theorem dX1_giveUp_10 : decode cX1_giveUp 10 = .ok (.if_icmp .ge 28, 3) := by decide +kernel
theorem dX1_giveUp_13 : decode cX1_giveUp 13 = .ok (.aload_n 0, 1) := by decide +kernel
theorem dX1_giveUp_14 : decode cX1_giveUp 14 = .ok (.getfield 13, 3) := by decide +kernel
theorem dX1_giveUp_17 : decode cX1_giveUp 17 = .ok (.iload_n 2, 1) := by decide +kernel
theorem dX1_giveUp_18 : decode cX1_giveUp 18 = .ok (.bipush 8, 2) := by decide +kernel
theorem dX1_giveUp_20 : decode cX1_giveUp 20 = .ok (.idiv, 1) := by decide +kernel
theorem dX1_giveUp_21 : decode cX1_giveUp 21 = .ok (.iaload, 1) := by decide +kernel
theorem dX1_giveUp_22 : decode cX1_giveUp 22 = .ok (.ifCond .eq 10, 3) := by decide +kernel
theorem dX1_giveUp_25 : decode cX1_giveUp 25 = .ok (.aload_n 0, 1) := by decide +kernel
theorem dX1_giveUp_26 : decode cX1_giveUp 26 = .ok (.getfield 7, 3) := by decide +kernel
theorem dX1_giveUp_29 : decode cX1_giveUp 29 = .ok (.iload_n 2, 1) := by decide +kernel
theorem dX1_giveUp_30 : decode cX1_giveUp 30 = .ok (.iconst 0, 1) := by decide +kernel
theorem dX1_giveUp_31 : decode cX1_giveUp 31 = .ok (.iastore, 1) := by decide +kernel
theorem dX1_giveUp_32 : decode cX1_giveUp 32 = .ok (.iinc 2 1, 3) := by decide +kernel
theorem dX1_giveUp_35 : decode cX1_giveUp 35 = .ok (.goto (-28), 3) := by decide +kernel
theorem dX1_giveUp_38 : decode cX1_giveUp 38 = .ok (.iconst 0, 1) := by decide +kernel
theorem dX1_giveUp_39 : decode cX1_giveUp 39 = .ok (.istore_n 2, 1) := by decide +kernel
theorem dX1_giveUp_40 : decode cX1_giveUp 40 = .ok (.iload_n 2, 1) := by decide +kernel
theorem dX1_giveUp_41 : decode cX1_giveUp 41 = .ok (.bipush 6, 2) := by decide +kernel
theorem dX1_giveUp_43 : decode cX1_giveUp 43 = .ok (.if_icmp .ge 16, 3) := by decide +kernel
theorem dX1_giveUp_46 : decode cX1_giveUp 46 = .ok (.aload_n 0, 1) := by decide +kernel
theorem dX1_giveUp_47 : decode cX1_giveUp 47 = .ok (.getfield 13, 3) := by decide +kernel
theorem dX1_giveUp_50 : decode cX1_giveUp 50 = .ok (.iload_n 2, 1) := by decide +kernel
theorem dX1_giveUp_51 : decode cX1_giveUp 51 = .ok (.iconst 0, 1) := by decide +kernel
theorem dX1_giveUp_52 : decode cX1_giveUp 52 = .ok (.iastore, 1) := by decide +kernel
theorem dX1_giveUp_53 : decode cX1_giveUp 53 = .ok (.iinc 2 1, 3) := by decide +kernel
theorem dX1_giveUp_56 : decode cX1_giveUp 56 = .ok (.goto (-16), 3) := by decide +kernel
theorem dX1_giveUp_59 : decode cX1_giveUp 59 = .ok (.aload_n 0, 1) := by decide +kernel
theorem dX1_giveUp_60 : decode cX1_giveUp 60 = .ok (.iconst 0, 1) := by decide +kernel
theorem dX1_giveUp_61 : decode cX1_giveUp 61 = .ok (.putfield 28, 3) := by decide +kernel
theorem dX1_giveUp_64 : decode cX1_giveUp 64 = .ok (.iload_n 1, 1) := by decide +kernel
theorem dX1_giveUp_65 : decode cX1_giveUp 65 = .ok (.ireturn, 1) := by decide +kernel
theorem dX1_read_0 : decode cX1_read 0 = .ok (.aload_n 0, 1) := by decide +kernel
theorem dX1_read_1 : decode cX1_read 1 = .ok (.iload_n 1, 1) := by decide +kernel
theorem dX1_read_2 : decode cX1_read 2 = .ok (.iload_n 2, 1) := by decide +kernel
theorem dX1_read_3 : decode cX1_read 3 = .ok (.iconst 0, 1) := by decide +kernel
theorem dX1_read_4 : decode cX1_read 4 = .ok (.invokevirtual 20, 3) := by decide +kernel
theorem dX1_read_7 : decode cX1_read 7 = .ok (.istore_n 3, 1) := by decide +kernel
theorem dX1_read_8 : decode cX1_read 8 = .ok (.iload_n 3, 1) := by decide +kernel
theorem dX1_read_9 : decode cX1_read 9 = .ok (.ifCond .ge 7, 3) := by decide +kernel
theorem dX1_read_12 : decode cX1_read 12 = .ok (.iload_n 3, 1) := by decide +kernel
theorem dX1_read_13 : decode cX1_read 13 = .ok (.goto 14, 3) := by decide +kernel
theorem dX1_read_16 : decode cX1_read 16 = .ok (.aload_n 0, 1) := by decide +kernel
theorem dX1_read_17 : decode cX1_read 17 = .ok (.getfield 7, 3) := by decide +kernel
theorem dX1_read_20 : decode cX1_read 20 = .ok (.iload_n 1, 1) := by decide +kernel
theorem dX1_read_21 : decode cX1_read 21 = .ok (.bipush 8, 2) := by decide +kernel
theorem dX1_read_23 : decode cX1_read 23 = .ok (.imul, 1) := by decide +kernel
theorem dX1_read_24 : decode cX1_read 24 = .ok (.iload_n 2, 1) := by decide +kernel
theorem dX1_read_25 : decode cX1_read 25 = .ok (.iadd, 1) := by decide +kernel
theorem dX1_read_26 : decode cX1_read 26 = .ok (.iaload, 1) := by decide +kernel
theorem dX1_read_27 : decode cX1_read 27 = .ok (.ireturn, 1) := by decide +kernel
theorem dX1_state_0 : decode cX1_state 0 = .ok (.iload_n 1, 1) := by decide +kernel
theorem dX1_state_1 : decode cX1_state 1 = .ok (.ifCond .lt 8, 3) := by decide +kernel
theorem dX1_state_4 : decode cX1_state 4 = .ok (.iload_n 1, 1) := by decide +kernel
theorem dX1_state_5 : decode cX1_state 5 = .ok (.iconst 5, 1) := by decide +kernel
theorem dX1_state_6 : decode cX1_state 6 = .ok (.if_icmp .le 7, 3) := by decide +kernel
theorem dX1_state_9 : decode cX1_state 9 = .ok (.iconst (-1), 1) := by decide +kernel
theorem dX1_state_10 : decode cX1_state 10 = .ok (.goto 9, 3) := by decide +kernel
theorem dX1_state_13 : decode cX1_state 13 = .ok (.aload_n 0, 1) := by decide +kernel
theorem dX1_state_14 : decode cX1_state 14 = .ok (.getfield 13, 3) := by decide +kernel
theorem dX1_state_17 : decode cX1_state 17 = .ok (.iload_n 1, 1) := by decide +kernel
theorem dX1_state_18 : decode cX1_state 18 = .ok (.iaload, 1) := by decide +kernel
theorem dX1_state_19 : decode cX1_state 19 = .ok (.ireturn, 1) := by decide +kernel
theorem dX1_margin_0 : decode cX1_margin 0 = .ok (.aload_n 0, 1) := by decide +kernel
theorem dX1_margin_1 : decode cX1_margin 1 = .ok (.invokevirtual 24, 3) := by decide +kernel
theorem dX1_margin_4 : decode cX1_margin 4 = .ok (.istore_n 1, 1) := by decide +kernel
theorem dX1_margin_5 : decode cX1_margin 5 = .ok (.iload_n 1, 1) := by decide +kernel
theorem dX1_margin_6 : decode cX1_margin 6 = .ok (.aload_n 0, 1) := by decide +kernel
theorem dX1_margin_7 : decode cX1_margin 7 = .ok (.invokevirtual 32, 3) := by decide +kernel
theorem dX1_margin_10 : decode cX1_margin 10 = .ok (.if_icmp .le 6, 3) := by decide +kernel
theorem dX1_margin_13 : decode cX1_margin 13 = .ok (.bipush (-6), 2) := by decide +kernel
theorem dX1_margin_15 : decode cX1_margin 15 = .ok (.ireturn, 1) := by decide +kernel
theorem dX1_margin_16 : decode cX1_margin 16 = .ok (.iconst 0, 1) := by decide +kernel
theorem dX1_margin_17 : decode cX1_margin 17 = .ok (.istore_n 2, 1) := by decide +kernel
theorem dX1_margin_18 : decode cX1_margin 18 = .ok (.iload_n 2, 1) := by decide +kernel
theorem dX1_margin_19 : decode cX1_margin 19 = .ok (.bipush 6, 2) := by decide +kernel
theorem dX1_margin_21 : decode cX1_margin 21 = .ok (.iload_n 1, 1) := by decide +kernel
theorem dX1_margin_22 : decode cX1_margin 22 = .ok (.isub, 1) := by decide +kernel
theorem dX1_margin_23 : decode cX1_margin 23 = .ok (.if_icmp .ge 21, 3) := by decide +kernel
theorem dX1_margin_26 : decode cX1_margin 26 = .ok (.iload_n 1, 1) := by decide +kernel
theorem dX1_margin_27 : decode cX1_margin 27 = .ok (.iload_n 2, 1) := by decide +kernel
theorem dX1_margin_28 : decode cX1_margin 28 = .ok (.iadd, 1) := by decide +kernel
theorem dX1_margin_29 : decode cX1_margin 29 = .ok (.iconst 1, 1) := by decide +kernel
theorem dX1_margin_30 : decode cX1_margin 30 = .ok (.iadd, 1) := by decide +kernel
theorem dX1_margin_31 : decode cX1_margin 31 = .ok (.aload_n 0, 1) := by decide +kernel
theorem dX1_margin_32 : decode cX1_margin 32 = .ok (.invokevirtual 32, 3) := by decide +kernel
theorem dX1_margin_35 : decode cX1_margin 35 = .ok (.if_icmp .gt 9, 3) := by decide +kernel
theorem dX1_margin_38 : decode cX1_margin 38 = .ok (.iinc 2 1, 3) := by decide +kernel
theorem dX1_margin_41 : decode cX1_margin 41 = .ok (.goto (-23), 3) := by decide +kernel
theorem dX1_margin_44 : decode cX1_margin 44 = .ok (.iload_n 2, 1) := by decide +kernel
theorem dX1_margin_45 : decode cX1_margin 45 = .ok (.ireturn, 1) := by decide +kernel
theorem dL_law_0 : decode cL_law 0 = .ok (.new 7, 3) := by decide +kernel
theorem dL_law_3 : decode cL_law 3 = .ok (.dup, 1) := by decide +kernel
theorem dL_law_4 : decode cL_law 4 = .ok (.invokespecial 9, 3) := by decide +kernel
theorem dL_law_7 : decode cL_law 7 = .ok (.astore_n 1, 1) := by decide +kernel
theorem dL_law_8 : decode cL_law 8 = .ok (.new 10, 3) := by decide +kernel
theorem dL_law_11 : decode cL_law 11 = .ok (.dup, 1) := by decide +kernel
theorem dL_law_12 : decode cL_law 12 = .ok (.invokespecial 12, 3) := by decide +kernel
theorem dL_law_15 : decode cL_law 15 = .ok (.astore_n 2, 1) := by decide +kernel
theorem dL_law_16 : decode cL_law 16 = .ok (.iconst 0, 1) := by decide +kernel
theorem dL_law_17 : decode cL_law 17 = .ok (.istore_n 3, 1) := by decide +kernel
theorem dL_law_18 : decode cL_law 18 = .ok (.iload_n 3, 1) := by decide +kernel
theorem dL_law_19 : decode cL_law 19 = .ok (.aload_n 0, 1) := by decide +kernel
theorem dL_law_20 : decode cL_law 20 = .ok (.arraylength, 1) := by decide +kernel
theorem dL_law_21 : decode cL_law 21 = .ok (.iconst 4, 1) := by decide +kernel
theorem dL_law_22 : decode cL_law 22 = .ok (.isub, 1) := by decide +kernel
theorem dL_law_23 : decode cL_law 23 = .ok (.if_icmp .gt 338, 3) := by decide +kernel
theorem dL_law_26 : decode cL_law 26 = .ok (.aload_n 0, 1) := by decide +kernel
theorem dL_law_27 : decode cL_law 27 = .ok (.iload_n 3, 1) := by decide +kernel
theorem dL_law_28 : decode cL_law 28 = .ok (.iaload, 1) := by decide +kernel
theorem dL_law_29 : decode cL_law 29 = .ok (.bipush 15, 2) := by decide +kernel
theorem dL_law_31 : decode cL_law 31 = .ok (.iand, 1) := by decide +kernel
theorem dL_law_32 : decode cL_law 32 = .ok (.tableswitch 323 0 10 #[60, 103, 126, 149, 172, 215, 228, 241, 274, 297, 310], 60) := by decide +kernel
theorem dL_law_92 : decode cL_law 92 = .ok (.aload_n 1, 1) := by decide +kernel
theorem dL_law_93 : decode cL_law 93 = .ok (.aload_n 0, 1) := by decide +kernel
theorem dL_law_94 : decode cL_law 94 = .ok (.iload_n 3, 1) := by decide +kernel
theorem dL_law_95 : decode cL_law 95 = .ok (.iconst 1, 1) := by decide +kernel
theorem dL_law_96 : decode cL_law 96 = .ok (.iadd, 1) := by decide +kernel
theorem dL_law_97 : decode cL_law 97 = .ok (.iaload, 1) := by decide +kernel
theorem dL_law_98 : decode cL_law 98 = .ok (.aload_n 0, 1) := by decide +kernel
theorem dL_law_99 : decode cL_law 99 = .ok (.iload_n 3, 1) := by decide +kernel
theorem dL_law_100 : decode cL_law 100 = .ok (.iconst 2, 1) := by decide +kernel
theorem dL_law_101 : decode cL_law 101 = .ok (.iadd, 1) := by decide +kernel
theorem dL_law_102 : decode cL_law 102 = .ok (.iaload, 1) := by decide +kernel
theorem dL_law_103 : decode cL_law 103 = .ok (.aload_n 0, 1) := by decide +kernel
theorem dL_law_104 : decode cL_law 104 = .ok (.iload_n 3, 1) := by decide +kernel
theorem dL_law_105 : decode cL_law 105 = .ok (.iconst 3, 1) := by decide +kernel
theorem dL_law_106 : decode cL_law 106 = .ok (.iadd, 1) := by decide +kernel
theorem dL_law_107 : decode cL_law 107 = .ok (.iaload, 1) := by decide +kernel
theorem dL_law_108 : decode cL_law 108 = .ok (.invokevirtual 13, 3) := by decide +kernel
theorem dL_law_111 : decode cL_law 111 = .ok (.aload_n 2, 1) := by decide +kernel
theorem dL_law_112 : decode cL_law 112 = .ok (.aload_n 0, 1) := by decide +kernel
theorem dL_law_113 : decode cL_law 113 = .ok (.iload_n 3, 1) := by decide +kernel
theorem dL_law_114 : decode cL_law 114 = .ok (.iconst 1, 1) := by decide +kernel
theorem dL_law_115 : decode cL_law 115 = .ok (.iadd, 1) := by decide +kernel
theorem dL_law_116 : decode cL_law 116 = .ok (.iaload, 1) := by decide +kernel
theorem dL_law_117 : decode cL_law 117 = .ok (.aload_n 0, 1) := by decide +kernel
theorem dL_law_118 : decode cL_law 118 = .ok (.iload_n 3, 1) := by decide +kernel
theorem dL_law_119 : decode cL_law 119 = .ok (.iconst 2, 1) := by decide +kernel
theorem dL_law_120 : decode cL_law 120 = .ok (.iadd, 1) := by decide +kernel
theorem dL_law_121 : decode cL_law 121 = .ok (.iaload, 1) := by decide +kernel
theorem dL_law_122 : decode cL_law 122 = .ok (.aload_n 0, 1) := by decide +kernel
theorem dL_law_123 : decode cL_law 123 = .ok (.iload_n 3, 1) := by decide +kernel
theorem dL_law_124 : decode cL_law 124 = .ok (.iconst 3, 1) := by decide +kernel
theorem dL_law_125 : decode cL_law 125 = .ok (.iadd, 1) := by decide +kernel
theorem dL_law_126 : decode cL_law 126 = .ok (.iaload, 1) := by decide +kernel
theorem dL_law_127 : decode cL_law 127 = .ok (.invokevirtual 17, 3) := by decide +kernel
theorem dL_law_130 : decode cL_law 130 = .ok (.if_icmp .eq 225, 3) := by decide +kernel
theorem dL_law_133 : decode cL_law 133 = .ok (.iconst 0, 1) := by decide +kernel
theorem dL_law_134 : decode cL_law 134 = .ok (.ireturn, 1) := by decide +kernel
theorem dL_law_135 : decode cL_law 135 = .ok (.aload_n 1, 1) := by decide +kernel
theorem dL_law_136 : decode cL_law 136 = .ok (.aload_n 0, 1) := by decide +kernel
theorem dL_law_137 : decode cL_law 137 = .ok (.iload_n 3, 1) := by decide +kernel
theorem dL_law_138 : decode cL_law 138 = .ok (.iconst 1, 1) := by decide +kernel
theorem dL_law_139 : decode cL_law 139 = .ok (.iadd, 1) := by decide +kernel
theorem dL_law_140 : decode cL_law 140 = .ok (.iaload, 1) := by decide +kernel
theorem dL_law_141 : decode cL_law 141 = .ok (.invokevirtual 18, 3) := by decide +kernel
theorem dL_law_144 : decode cL_law 144 = .ok (.aload_n 2, 1) := by decide +kernel
theorem dL_law_145 : decode cL_law 145 = .ok (.aload_n 0, 1) := by decide +kernel
theorem dL_law_146 : decode cL_law 146 = .ok (.iload_n 3, 1) := by decide +kernel
theorem dL_law_147 : decode cL_law 147 = .ok (.iconst 1, 1) := by decide +kernel
theorem dL_law_148 : decode cL_law 148 = .ok (.iadd, 1) := by decide +kernel
theorem dL_law_149 : decode cL_law 149 = .ok (.iaload, 1) := by decide +kernel
theorem dL_law_150 : decode cL_law 150 = .ok (.invokevirtual 22, 3) := by decide +kernel
theorem dL_law_153 : decode cL_law 153 = .ok (.if_icmp .eq 202, 3) := by decide +kernel
theorem dL_law_156 : decode cL_law 156 = .ok (.iconst 0, 1) := by decide +kernel
theorem dL_law_157 : decode cL_law 157 = .ok (.ireturn, 1) := by decide +kernel
theorem dL_law_158 : decode cL_law 158 = .ok (.aload_n 1, 1) := by decide +kernel
theorem dL_law_159 : decode cL_law 159 = .ok (.aload_n 0, 1) := by decide +kernel
theorem dL_law_160 : decode cL_law 160 = .ok (.iload_n 3, 1) := by decide +kernel
theorem dL_law_161 : decode cL_law 161 = .ok (.iconst 1, 1) := by decide +kernel
theorem dL_law_162 : decode cL_law 162 = .ok (.iadd, 1) := by decide +kernel
theorem dL_law_163 : decode cL_law 163 = .ok (.iaload, 1) := by decide +kernel
theorem dL_law_164 : decode cL_law 164 = .ok (.invokevirtual 23, 3) := by decide +kernel
theorem dL_law_167 : decode cL_law 167 = .ok (.aload_n 2, 1) := by decide +kernel
theorem dL_law_168 : decode cL_law 168 = .ok (.aload_n 0, 1) := by decide +kernel
theorem dL_law_169 : decode cL_law 169 = .ok (.iload_n 3, 1) := by decide +kernel
theorem dL_law_170 : decode cL_law 170 = .ok (.iconst 1, 1) := by decide +kernel
theorem dL_law_171 : decode cL_law 171 = .ok (.iadd, 1) := by decide +kernel
theorem dL_law_172 : decode cL_law 172 = .ok (.iaload, 1) := by decide +kernel
theorem dL_law_173 : decode cL_law 173 = .ok (.invokevirtual 26, 3) := by decide +kernel
theorem dL_law_176 : decode cL_law 176 = .ok (.if_icmp .eq 179, 3) := by decide +kernel
theorem dL_law_179 : decode cL_law 179 = .ok (.iconst 0, 1) := by decide +kernel
theorem dL_law_180 : decode cL_law 180 = .ok (.ireturn, 1) := by decide +kernel
theorem dL_law_181 : decode cL_law 181 = .ok (.aload_n 1, 1) := by decide +kernel
theorem dL_law_182 : decode cL_law 182 = .ok (.aload_n 0, 1) := by decide +kernel
theorem dL_law_183 : decode cL_law 183 = .ok (.iload_n 3, 1) := by decide +kernel
theorem dL_law_184 : decode cL_law 184 = .ok (.iconst 1, 1) := by decide +kernel
theorem dL_law_185 : decode cL_law 185 = .ok (.iadd, 1) := by decide +kernel
theorem dL_law_186 : decode cL_law 186 = .ok (.iaload, 1) := by decide +kernel
theorem dL_law_187 : decode cL_law 187 = .ok (.invokevirtual 27, 3) := by decide +kernel
theorem dL_law_190 : decode cL_law 190 = .ok (.aload_n 2, 1) := by decide +kernel
theorem dL_law_191 : decode cL_law 191 = .ok (.aload_n 0, 1) := by decide +kernel
theorem dL_law_192 : decode cL_law 192 = .ok (.iload_n 3, 1) := by decide +kernel
theorem dL_law_193 : decode cL_law 193 = .ok (.iconst 1, 1) := by decide +kernel
theorem dL_law_194 : decode cL_law 194 = .ok (.iadd, 1) := by decide +kernel
theorem dL_law_195 : decode cL_law 195 = .ok (.iaload, 1) := by decide +kernel
theorem dL_law_196 : decode cL_law 196 = .ok (.invokevirtual 30, 3) := by decide +kernel
theorem dL_law_199 : decode cL_law 199 = .ok (.if_icmp .eq 156, 3) := by decide +kernel
theorem dL_law_202 : decode cL_law 202 = .ok (.iconst 0, 1) := by decide +kernel
theorem dL_law_203 : decode cL_law 203 = .ok (.ireturn, 1) := by decide +kernel
theorem dL_law_204 : decode cL_law 204 = .ok (.aload_n 1, 1) := by decide +kernel
theorem dL_law_205 : decode cL_law 205 = .ok (.aload_n 0, 1) := by decide +kernel
theorem dL_law_206 : decode cL_law 206 = .ok (.iload_n 3, 1) := by decide +kernel
theorem dL_law_207 : decode cL_law 207 = .ok (.iconst 1, 1) := by decide +kernel
theorem dL_law_208 : decode cL_law 208 = .ok (.iadd, 1) := by decide +kernel
theorem dL_law_209 : decode cL_law 209 = .ok (.iaload, 1) := by decide +kernel
theorem dL_law_210 : decode cL_law 210 = .ok (.aload_n 0, 1) := by decide +kernel
theorem dL_law_211 : decode cL_law 211 = .ok (.iload_n 3, 1) := by decide +kernel
theorem dL_law_212 : decode cL_law 212 = .ok (.iconst 2, 1) := by decide +kernel
theorem dL_law_213 : decode cL_law 213 = .ok (.iadd, 1) := by decide +kernel
theorem dL_law_214 : decode cL_law 214 = .ok (.iaload, 1) := by decide +kernel
theorem dL_law_215 : decode cL_law 215 = .ok (.aload_n 0, 1) := by decide +kernel
theorem dL_law_216 : decode cL_law 216 = .ok (.iload_n 3, 1) := by decide +kernel
theorem dL_law_217 : decode cL_law 217 = .ok (.iconst 3, 1) := by decide +kernel
theorem dL_law_218 : decode cL_law 218 = .ok (.iadd, 1) := by decide +kernel
theorem dL_law_219 : decode cL_law 219 = .ok (.iaload, 1) := by decide +kernel
theorem dL_law_220 : decode cL_law 220 = .ok (.invokevirtual 31, 3) := by decide +kernel
theorem dL_law_223 : decode cL_law 223 = .ok (.aload_n 2, 1) := by decide +kernel
theorem dL_law_224 : decode cL_law 224 = .ok (.aload_n 0, 1) := by decide +kernel
theorem dL_law_225 : decode cL_law 225 = .ok (.iload_n 3, 1) := by decide +kernel
theorem dL_law_226 : decode cL_law 226 = .ok (.iconst 1, 1) := by decide +kernel
theorem dL_law_227 : decode cL_law 227 = .ok (.iadd, 1) := by decide +kernel
theorem dL_law_228 : decode cL_law 228 = .ok (.iaload, 1) := by decide +kernel
theorem dL_law_229 : decode cL_law 229 = .ok (.aload_n 0, 1) := by decide +kernel
theorem dL_law_230 : decode cL_law 230 = .ok (.iload_n 3, 1) := by decide +kernel
theorem dL_law_231 : decode cL_law 231 = .ok (.iconst 2, 1) := by decide +kernel
theorem dL_law_232 : decode cL_law 232 = .ok (.iadd, 1) := by decide +kernel
theorem dL_law_233 : decode cL_law 233 = .ok (.iaload, 1) := by decide +kernel
theorem dL_law_234 : decode cL_law 234 = .ok (.aload_n 0, 1) := by decide +kernel
theorem dL_law_235 : decode cL_law 235 = .ok (.iload_n 3, 1) := by decide +kernel
theorem dL_law_236 : decode cL_law 236 = .ok (.iconst 3, 1) := by decide +kernel
theorem dL_law_237 : decode cL_law 237 = .ok (.iadd, 1) := by decide +kernel
theorem dL_law_238 : decode cL_law 238 = .ok (.iaload, 1) := by decide +kernel
theorem dL_law_239 : decode cL_law 239 = .ok (.invokevirtual 34, 3) := by decide +kernel
theorem dL_law_242 : decode cL_law 242 = .ok (.if_icmp .eq 113, 3) := by decide +kernel
theorem dL_law_245 : decode cL_law 245 = .ok (.iconst 0, 1) := by decide +kernel
theorem dL_law_246 : decode cL_law 246 = .ok (.ireturn, 1) := by decide +kernel
theorem dL_law_247 : decode cL_law 247 = .ok (.aload_n 1, 1) := by decide +kernel
theorem dL_law_248 : decode cL_law 248 = .ok (.invokevirtual 35, 3) := by decide +kernel
theorem dL_law_251 : decode cL_law 251 = .ok (.aload_n 2, 1) := by decide +kernel
theorem dL_law_252 : decode cL_law 252 = .ok (.invokevirtual 39, 3) := by decide +kernel
theorem dL_law_255 : decode cL_law 255 = .ok (.if_icmp .eq 100, 3) := by decide +kernel
theorem dL_law_258 : decode cL_law 258 = .ok (.iconst 0, 1) := by decide +kernel
theorem dL_law_259 : decode cL_law 259 = .ok (.ireturn, 1) := by decide +kernel
theorem dL_law_260 : decode cL_law 260 = .ok (.aload_n 1, 1) := by decide +kernel
theorem dL_law_261 : decode cL_law 261 = .ok (.invokevirtual 40, 3) := by decide +kernel
theorem dL_law_264 : decode cL_law 264 = .ok (.aload_n 2, 1) := by decide +kernel
theorem dL_law_265 : decode cL_law 265 = .ok (.invokevirtual 43, 3) := by decide +kernel
theorem dL_law_268 : decode cL_law 268 = .ok (.if_icmp .eq 87, 3) := by decide +kernel
theorem dL_law_271 : decode cL_law 271 = .ok (.iconst 0, 1) := by decide +kernel
theorem dL_law_272 : decode cL_law 272 = .ok (.ireturn, 1) := by decide +kernel
theorem dL_law_273 : decode cL_law 273 = .ok (.aload_n 1, 1) := by decide +kernel
theorem dL_law_274 : decode cL_law 274 = .ok (.aload_n 0, 1) := by decide +kernel
theorem dL_law_275 : decode cL_law 275 = .ok (.iload_n 3, 1) := by decide +kernel
theorem dL_law_276 : decode cL_law 276 = .ok (.iconst 1, 1) := by decide +kernel
theorem dL_law_277 : decode cL_law 277 = .ok (.iadd, 1) := by decide +kernel
theorem dL_law_278 : decode cL_law 278 = .ok (.iaload, 1) := by decide +kernel
theorem dL_law_279 : decode cL_law 279 = .ok (.aload_n 0, 1) := by decide +kernel
theorem dL_law_280 : decode cL_law 280 = .ok (.iload_n 3, 1) := by decide +kernel
theorem dL_law_281 : decode cL_law 281 = .ok (.iconst 2, 1) := by decide +kernel
theorem dL_law_282 : decode cL_law 282 = .ok (.iadd, 1) := by decide +kernel
theorem dL_law_283 : decode cL_law 283 = .ok (.iaload, 1) := by decide +kernel
theorem dL_law_284 : decode cL_law 284 = .ok (.invokevirtual 44, 3) := by decide +kernel
theorem dL_law_287 : decode cL_law 287 = .ok (.aload_n 2, 1) := by decide +kernel
theorem dL_law_288 : decode cL_law 288 = .ok (.aload_n 0, 1) := by decide +kernel
theorem dL_law_289 : decode cL_law 289 = .ok (.iload_n 3, 1) := by decide +kernel
theorem dL_law_290 : decode cL_law 290 = .ok (.iconst 1, 1) := by decide +kernel
theorem dL_law_291 : decode cL_law 291 = .ok (.iadd, 1) := by decide +kernel
theorem dL_law_292 : decode cL_law 292 = .ok (.iaload, 1) := by decide +kernel
theorem dL_law_293 : decode cL_law 293 = .ok (.aload_n 0, 1) := by decide +kernel
theorem dL_law_294 : decode cL_law 294 = .ok (.iload_n 3, 1) := by decide +kernel
theorem dL_law_295 : decode cL_law 295 = .ok (.iconst 2, 1) := by decide +kernel
theorem dL_law_296 : decode cL_law 296 = .ok (.iadd, 1) := by decide +kernel
theorem dL_law_297 : decode cL_law 297 = .ok (.iaload, 1) := by decide +kernel
theorem dL_law_298 : decode cL_law 298 = .ok (.invokevirtual 48, 3) := by decide +kernel
theorem dL_law_301 : decode cL_law 301 = .ok (.if_icmp .eq 54, 3) := by decide +kernel
theorem dL_law_304 : decode cL_law 304 = .ok (.iconst 0, 1) := by decide +kernel
theorem dL_law_305 : decode cL_law 305 = .ok (.ireturn, 1) := by decide +kernel
theorem dL_law_306 : decode cL_law 306 = .ok (.aload_n 1, 1) := by decide +kernel
theorem dL_law_307 : decode cL_law 307 = .ok (.aload_n 0, 1) := by decide +kernel
theorem dL_law_308 : decode cL_law 308 = .ok (.iload_n 3, 1) := by decide +kernel
theorem dL_law_309 : decode cL_law 309 = .ok (.iconst 1, 1) := by decide +kernel
theorem dL_law_310 : decode cL_law 310 = .ok (.iadd, 1) := by decide +kernel
theorem dL_law_311 : decode cL_law 311 = .ok (.iaload, 1) := by decide +kernel
theorem dL_law_312 : decode cL_law 312 = .ok (.invokevirtual 49, 3) := by decide +kernel
theorem dL_law_315 : decode cL_law 315 = .ok (.aload_n 2, 1) := by decide +kernel
theorem dL_law_316 : decode cL_law 316 = .ok (.aload_n 0, 1) := by decide +kernel
theorem dL_law_317 : decode cL_law 317 = .ok (.iload_n 3, 1) := by decide +kernel
theorem dL_law_318 : decode cL_law 318 = .ok (.iconst 1, 1) := by decide +kernel
theorem dL_law_319 : decode cL_law 319 = .ok (.iadd, 1) := by decide +kernel
theorem dL_law_320 : decode cL_law 320 = .ok (.iaload, 1) := by decide +kernel
theorem dL_law_321 : decode cL_law 321 = .ok (.invokevirtual 52, 3) := by decide +kernel
theorem dL_law_324 : decode cL_law 324 = .ok (.if_icmp .eq 31, 3) := by decide +kernel
theorem dL_law_327 : decode cL_law 327 = .ok (.iconst 0, 1) := by decide +kernel
theorem dL_law_328 : decode cL_law 328 = .ok (.ireturn, 1) := by decide +kernel
theorem dL_law_329 : decode cL_law 329 = .ok (.aload_n 1, 1) := by decide +kernel
theorem dL_law_330 : decode cL_law 330 = .ok (.invokevirtual 53, 3) := by decide +kernel
theorem dL_law_333 : decode cL_law 333 = .ok (.aload_n 2, 1) := by decide +kernel
theorem dL_law_334 : decode cL_law 334 = .ok (.invokevirtual 56, 3) := by decide +kernel
theorem dL_law_337 : decode cL_law 337 = .ok (.if_icmp .eq 18, 3) := by decide +kernel
theorem dL_law_340 : decode cL_law 340 = .ok (.iconst 0, 1) := by decide +kernel
theorem dL_law_341 : decode cL_law 341 = .ok (.ireturn, 1) := by decide +kernel
theorem dL_law_342 : decode cL_law 342 = .ok (.aload_n 1, 1) := by decide +kernel
theorem dL_law_343 : decode cL_law 343 = .ok (.invokevirtual 57, 3) := by decide +kernel
theorem dL_law_346 : decode cL_law 346 = .ok (.aload_n 2, 1) := by decide +kernel
theorem dL_law_347 : decode cL_law 347 = .ok (.invokevirtual 60, 3) := by decide +kernel
theorem dL_law_350 : decode cL_law 350 = .ok (.if_icmp .eq 5, 3) := by decide +kernel
theorem dL_law_353 : decode cL_law 353 = .ok (.iconst 0, 1) := by decide +kernel
theorem dL_law_354 : decode cL_law 354 = .ok (.ireturn, 1) := by decide +kernel
theorem dL_law_355 : decode cL_law 355 = .ok (.iinc 3 4, 3) := by decide +kernel
theorem dL_law_358 : decode cL_law 358 = .ok (.goto (-340), 3) := by decide +kernel
theorem dL_law_361 : decode cL_law 361 = .ok (.iconst 1, 1) := by decide +kernel
theorem dL_law_362 : decode cL_law 362 = .ok (.ireturn, 1) := by decide +kernel
end
section
/-! ===== rows of my own over the kit: numbers that are small naturals; arrays of naturals; calls that only read; calls that change the object's own cells; loops ===== -/
def pa_a (f : Nat → Nat) : Nat → Int32 := fun j => nI (f j)
def pa_u (f : Nat → Nat) (k x : Nat) : Nat → Nat := fun j => if j = k then x else f j
theorem pa_us {f : Nat → Nat} {k x : Nat} : pa_u f k x k = x := if_pos rfl
theorem pa_un {f : Nat → Nat} {k x j : Nat} (h : j ≠ k) : pa_u f k x j = f j := if_neg h
theorem pa_ub {f : Nat → Nat} {k x B : Nat} (h : ∀ j, f j < B) (hx : x < B) : ∀ j, pa_u f k x j < B := by
  intro j
  unfold pa_u
  split
  · exact hx
  · exact h j
theorem pa_upd {f : Nat → Nat} {k x : Nat} : upd (pa_a f) k (nI x) = pa_a (pa_u f k x) := by
  funext j
  unfold upd pa_a pa_u
  split <;> rfl
theorem pa_xorI (a b : Nat) : nI a ^^^ nI b = nI (a ^^^ b) := by
  apply Int32.toBitVec_inj.1
  show BitVec.ofNat 32 a ^^^ BitVec.ofNat 32 b = BitVec.ofNat 32 (a ^^^ b)
  apply BitVec.eq_of_getLsbD_eq
  intro i hi
  simp [hi]
abbrev clA : List vw_C := [(RX0, TX0, 12), (RX1, TX1, 4)]
def pa_rm (f lo : Nat) : Room := { frames := f, cells := 0, slots := 0, locals := lo }
/-- the cells of the archive -/
def WX (a : Nat → Nat) (cI cZ : ClassId) (pw ex da th : Nat → Nat) (ck : Nat → Int32) (rc : Nat) (re rt : Nat → Nat) (ms : Nat) (mb ur eq : Nat → Nat) : va_W :=
  [(a 0, .inr (0, [.ref (a 1), .ref (a 2), .ref (a 3), .ref (a 4), .ref (a 5), .int (nI rc), .ref (a 6), .ref (a 7), .int (nI ms), .ref (a 8), .ref (a 9), .ref (a 10)])),
   (a 1, .inl (cI, 256, .inl (pa_a pw))), (a 2, .inl (cI, 256, .inl (pa_a ex))), (a 3, .inl (cI, 48, .inl (pa_a da))), (a 4, .inl (cZ, 6, .inl (pa_a th))), (a 5, .inl (cI, 6, .inl ck)),
   (a 6, .inl (cI, 32, .inl (pa_a re))), (a 7, .inl (cZ, 4, .inl (pa_a rt))), (a 8, .inl (cI, 6, .inl (pa_a mb))), (a 9, .inl (cI, 6, .inl (pa_a ur))), (a 10, .inl (cI, 72, .inl (pa_a eq)))]
/-- the cells of the reference -/
def WM (a : Nat → Nat) (cI cZ : ClassId) (rl st : Nat → Nat) (rc : Nat) (lo : Nat → Nat) : va_W :=
  [(a 0, .inr (1, [.ref (a 1), .ref (a 2), .int (nI rc), .ref (a 3)])), (a 1, .inl (cI, 48, .inl (pa_a rl))), (a 2, .inl (cI, 6, .inl (pa_a st))), (a 3, .inl (cZ, 4, .inl (pa_a lo)))]
def pa_A (n : Nat) (a : Nat → Nat) : Nat → Prop := fun q => ∃ k, k < n ∧ q = a k
def pa_N (n : Nat) (a : Nat → Nat) : Prop := ∀ i j, i < n → j < n → a i = a j → i = j
theorem pa_D {n : Nat} {a : Nat → Nat} {ws : va_W} (hN : pa_N n a) (h : ws.map Prod.fst = (List.range n).map a) : va_D (pa_A n a) ws := by
  have key : ∀ (k : Nat) (q : Nat × va_E), ws[k]? = some q → k < n ∧ q.1 = a k := by
    intro k q hk
    have h1 : (ws.map Prod.fst)[k]? = some q.1 := by rw [List.getElem?_map, hk]; rfl
    rw [h, List.getElem?_map] at h1
    cases hr : (List.range n)[k]? with
    | none => rw [hr] at h1; cases h1
    | some z =>
      rw [hr] at h1
      have hz := List.getElem?_eq_some_iff.mp hr
      obtain ⟨hlt, hz⟩ := hz
      rw [List.getElem_range] at hz
      rw [List.length_range] at hlt
      subst hz
      exact ⟨hlt, (Option.some.inj h1).symm⟩
  refine ⟨fun i j x y hi hj hxy => ?_, fun k q hk => ?_⟩
  · obtain ⟨h1, h2⟩ := key i x hi
    obtain ⟨h3, h4⟩ := key j y hj
    exact hN i j h1 h3 (by rw [← h2, ← h4]; exact hxy)
  · obtain ⟨h1, h2⟩ := key k q hk
    exact ⟨k, h1, h2⟩
theorem WX_D {a : Nat → Nat} {cI cZ : ClassId} {pw ex da th : Nat → Nat} {ck : Nat → Int32} {rc : Nat} {re rt : Nat → Nat} {ms : Nat} {mb ur eq : Nat → Nat} (hN : pa_N 11 a) : va_D (pa_A 11 a) (WX a cI cZ pw ex da th ck rc re rt ms mb ur eq) := pa_D hN rfl
theorem WM_D {a : Nat → Nat} {cI cZ : ClassId} {rl st : Nat → Nat} {rc : Nat} {lo : Nat → Nat} (hN : pa_N 4 a) : va_D (pa_A 4 a) (WM a cI cZ rl st rc lo) := pa_D hN rfl
/-- a method's start -/
def PcX (D : va_G) (cl : List vw_C) (tys : List (ClassId × FieldType)) (As : List Value) (ws : va_W) : Array Value → State → Prop := fun v U => v = As.toArray ∧ va_P D cl ws U.heap ∧ va_K D cl tys U
/-- the end of a method that changes its own cells: its answer, the new cells, nothing else changed -/
def QcXi (r : Int32) (D : va_G) (cl : List vw_C) (ws' : va_W) (A : Nat → Prop) : Array Value → State → Outcome → State → Prop := fun _ st o t => o = .returned (some (.int r)) ∧ va_P D cl ws' t.heap ∧ va_F A st t
def QcXv (D : va_G) (cl : List vw_C) (ws' : va_W) (A : Nat → Prop) : Array Value → State → Outcome → State → Prop := fun _ st o t => o = .returned none ∧ va_P D cl ws' t.heap ∧ va_F A st t
theorem pa_blind {D : va_G} {cl : List vw_C} {tys : List (ClassId × FieldType)} {As : List Value} {ws : va_W} : FrameBlind (PcX D cl tys As ws) := fun a U g mk q => by
  obtain ⟨q0, qP, qK⟩ := q
  exact ⟨q0, qP, va_K.moved (u := U) (U := U.calling g mk a) (Vm.Alike.refl U.vm) qK⟩
theorem pa_preV {s : State} {H : Heap} {D : va_G} {cl : List vw_C} {tys : List (ClassId × FieldType)} {As : List Value} {ws : va_W} {ad ci : Nat} {q : vw_C} {fs : List Value} (hK : va_K D cl tys s) (hP : va_P D cl ws H) (hc : cl[ci]? = some q) (he : ws[0]? = some (ad, .inr (ci, fs))) : PreV s H q.1 ad (PcX D cl tys (.ref ad :: As) ws) As :=
  ⟨pa_blind, va_recv hK hP hc he, fun U hU hW => ⟨rfl, by rw [hU]; exact hP, va_K.moved hW.alike hK⟩⟩
theorem pa_enter {l : Launch} {D : va_G} {cl : List vw_C} {tys : List (ClassId × FieldType)} {y : MethodName} {cc : ByteArray} {maxL : Nat} {ret : Option FieldType} {rm : Room} {As : List Value} {ws : va_W} {Qc : Array Value → State → Outcome → State → Prop} {mc ms : Nat} {free : Addr → Prop} (hy : plainName y.cls = true) (hAs : (lg_sl As).length ≤ maxL)
    (body : ∀ (p : Program) (e : Env) (s : State) (m : MethodId) (below : List Frame) (meth : Method) (c : Code) (ls : Array Slot), p.tables.exec = Jvm.exec → c.code = cc → meth.sig.returnType = ret → meth.locks = false → c.maxLocals = maxL → s.vm.findClass y.cls = some m.cls → meth.name = y.name → (∀ w ∈ lw_all, w.before As.toArray s = true) → va_P D cl ws s.heap → va_K D cl tys s → lv_has ls maxL (lv_args 0 As) → W p l e rm s m As.toArray below meth c s.heap [] 0 0 (MQ below Qc As.toArray s mc ms free) (F0 m 0 ls [])) :
    Met l y (ws_ y cc maxL ret) rm (PcX D cl tys As ws) Qc mc ms free := by
  refine Met.ofW (cc := cc) (maxL := maxL) (ret := ret) hy rfl ?_
  intro p e s m args below meth c s₁ B hml hv
  obtain ⟨rfl, hP, hK⟩ := hv
  have hts := atoms_spec (ws := ws_ y cc maxL ret) B.pre
  have hts : ∀ w ∈ lw_all, w.before _ s = true := fun w h => hts w (List.mem_cons_of_mem _ h)
  have hl := lv_entry As (n := maxL) hAs
  rw [lg_entry_eq]
  exact body p e s m below meth c _ B.exec B.bytes B.returns B.notSynchronized hml (findClass_of_methodNamed B.named) (name_of_methodNamed B.named B.method).1 hts hP hK hl
section PA
variable {p : Program} {l : Launch} {e : Env} {R : Room} {s : State} {m : MethodId} {args : Array Value} {below : List Frame} {meth : Method} {c : Code} {H : Heap} {locs : List Loc} {cells slots : Nat} {Q : State → Prop}
variable {cc : ByteArray} {pc : Nat} {ls : Array Slot} {rest : List Value} {D : va_G} {cl : List vw_C} {A A0 : Nat → Prop} {ad : Nat} {tys : List (ClassId × FieldType)} {ws ws' : va_W} {H0 : Heap}
theorem pa_top {x y : Int32} (h : x = y) (k : W p l e R s m args below meth c H locs cells slots Q (F0 m pc ls (.int y :: rest))) : W p l e R s m args below meth c H locs cells slots Q (F0 m pc ls (.int x :: rest)) := by
  rw [h]; exact k
theorem na_top {x y : Nat} (h : x = y) (k : W p l e R s m args below meth c H locs cells slots Q (F0 m pc ls (.int (nI y) :: rest))) : W p l e R s m args below meth c H locs cells slots Q (F0 m pc ls (.int (nI x) :: rest)) := by
  rw [h]; exact k
theorem na_add (hx : p.tables.exec = Jvm.exec) (hb : c.code = cc) {x y : Nat} (hdg : decode cc pc = .ok (.iadd, 1)) (k : W p l e R s m args below meth c H locs cells slots Q (F0 m (pc + 1) ls (.int (nI (x + y)) :: rest))) : W p l e R s m args below meth c H locs cells slots Q (F0 m pc ls (.int (nI y) :: .int (nI x) :: rest)) :=
  lv_iadd hx hb hdg (by rw [nI_add]; exact k)
theorem na_sub (hx : p.tables.exec = Jvm.exec) (hb : c.code = cc) {x y : Nat} (hdg : decode cc pc = .ok (.isub, 1)) (h : y ≤ x) (k : W p l e R s m args below meth c H locs cells slots Q (F0 m (pc + 1) ls (.int (nI (x - y)) :: rest))) : W p l e R s m args below meth c H locs cells slots Q (F0 m pc ls (.int (nI y) :: .int (nI x) :: rest)) :=
  lv_isub hx hb hdg (by rw [pk_sub h]; exact k)
theorem na_mul (hx : p.tables.exec = Jvm.exec) (hb : c.code = cc) {x y : Nat} (hdg : decode cc pc = .ok (.imul, 1)) (k : W p l e R s m args below meth c H locs cells slots Q (F0 m (pc + 1) ls (.int (nI (x * y)) :: rest))) : W p l e R s m args below meth c H locs cells slots Q (F0 m pc ls (.int (nI y) :: .int (nI x) :: rest)) :=
  lv_imul hx hb hdg (by rw [pk_mul]; exact k)
theorem na_xor (hx : p.tables.exec = Jvm.exec) (hb : c.code = cc) {x y : Nat} (hdg : decode cc pc = .ok (.ixor, 1)) (k : W p l e R s m args below meth c H locs cells slots Q (F0 m (pc + 1) ls (.int (nI (x ^^^ y)) :: rest))) : W p l e R s m args below meth c H locs cells slots Q (F0 m pc ls (.int (nI y) :: .int (nI x) :: rest)) :=
  lv_ixor hx hb hdg (by rw [pa_xorI]; exact k)
theorem na_rem (hx : p.tables.exec = Jvm.exec) (hb : c.code = cc) {x y : Nat} (hdg : decode cc pc = .ok (.irem, 1)) (h1 : x < 2 ^ 31) (h0 : 0 < y) (h2 : y < 2 ^ 31) (k : W p l e R s m args below meth c H locs cells slots Q (F0 m (pc + 1) ls (.int (nI (x % y)) :: rest))) : W p l e R s m args below meth c H locs cells slots Q (F0 m pc ls (.int (nI y) :: .int (nI x) :: rest)) :=
  lv_irem hx hb hdg (nI_ne0 h0 h2) (by rw [pk_rem h1 h0 h2]; exact k)
theorem na_div (hx : p.tables.exec = Jvm.exec) (hb : c.code = cc) {x y : Nat} (hdg : decode cc pc = .ok (.idiv, 1)) (h1 : x < 2 ^ 31) (h0 : 0 < y) (h2 : y < 2 ^ 31) (k : W p l e R s m args below meth c H locs cells slots Q (F0 m (pc + 1) ls (.int (nI (x / y)) :: rest))) : W p l e R s m args below meth c H locs cells slots Q (F0 m pc ls (.int (nI y) :: .int (nI x) :: rest)) :=
  lv_idiv hx hb hdg (nI_ne0 h0 h2) (by rw [pk_div h1 h0 h2]; exact k)
theorem na_iinc (hx : p.tables.exec = Jvm.exec) (hb : c.code = cc) {i nL k x : Nat} {lv lv' : List (Nat × Value)} (hdg : decode cc pc = .ok (.iinc i 1, 3)) (h : lv_has ls nL lv) (hk : lv[k]? = some (i, .int (nI x))) (hn : i < nL) (hl : (i, Value.int (nI (x + 1))) :: lv.filter (fun q => !(q.1 == i) && !(q.1 + 1 == i && q.2.category == 2)) = lv')
    (kk : ∀ ls' : Array Slot, lv_has ls' nL lv' → W p l e R s m args below meth c H locs cells slots Q (F0 m (pc + 3) ls' rest)) : W p l e R s m args below meth c H locs cells slots Q (F0 m pc ls rest) :=
  lv_iinc hx hb hdg h hk (show nI x + Int32.ofInt 1 = nI (x + 1) from nI_1 x) hn hl kk
theorem na_if_eq (hx : p.tables.exec = Jvm.exec) (hb : c.code = cc) {x : Nat} {off : Int} {tgt : Nat} (hdg : decode cc pc = .ok (.ifCond .eq off, 3)) (ht : (pc : Int) + off = (tgt : Int)) (h1 : x < 2 ^ 31)
    (kt : x = 0 → W p l e R s m args below meth c H locs cells slots Q (F0 m tgt ls rest)) (kf : ¬ x = 0 → W p l e R s m args below meth c H locs cells slots Q (F0 m (pc + 3) ls rest)) : W p l e R s m args below meth c H locs cells slots Q (F0 m pc ls (.int (nI x) :: rest)) :=
  lv_if_eq hx hb hdg ht (fun h => kt ((nI_eq h1 (by decide)).mp (show nI x = nI 0 from h))) (fun h => kf (fun q => h (by rw [q]; rfl)))
theorem na_if_ne (hx : p.tables.exec = Jvm.exec) (hb : c.code = cc) {x : Nat} {off : Int} {tgt : Nat} (hdg : decode cc pc = .ok (.ifCond .ne off, 3)) (ht : (pc : Int) + off = (tgt : Int)) (h1 : x < 2 ^ 31)
    (kt : ¬ x = 0 → W p l e R s m args below meth c H locs cells slots Q (F0 m tgt ls rest)) (kf : x = 0 → W p l e R s m args below meth c H locs cells slots Q (F0 m (pc + 3) ls rest)) : W p l e R s m args below meth c H locs cells slots Q (F0 m pc ls (.int (nI x) :: rest)) :=
  lv_if_ne hx hb hdg ht (fun h => kt (fun q => h (by rw [q]; rfl))) (fun h => kf ((nI_eq h1 (by decide)).mp (show nI x = nI 0 from h)))
theorem na_if_lt (hx : p.tables.exec = Jvm.exec) (hb : c.code = cc) {x : Nat} {off : Int} (hdg : decode cc pc = .ok (.ifCond .lt off, 3)) {tgt : Nat} (ht : (pc : Int) + off = (tgt : Int)) (h1 : x < 2 ^ 31)
    (kf : W p l e R s m args below meth c H locs cells slots Q (F0 m (pc + 3) ls rest)) : W p l e R s m args below meth c H locs cells slots Q (F0 m pc ls (.int (nI x) :: rest)) :=
  lv_if_lt hx hb hdg ht (fun h => absurd h (nI_pos h1)) (fun _ => kf)
theorem na_if_ge (hx : p.tables.exec = Jvm.exec) (hb : c.code = cc) {x : Nat} {off : Int} (hdg : decode cc pc = .ok (.ifCond .ge off, 3)) {tgt : Nat} (ht : (pc : Int) + off = (tgt : Int)) (h1 : x < 2 ^ 31)
    (kt : W p l e R s m args below meth c H locs cells slots Q (F0 m tgt ls rest)) : W p l e R s m args below meth c H locs cells slots Q (F0 m pc ls (.int (nI x) :: rest)) :=
  lv_if_ge hx hb hdg ht (fun _ => kt) (fun h => absurd (nI_pos' h1) h)
theorem na_if_le (hx : p.tables.exec = Jvm.exec) (hb : c.code = cc) {x : Nat} {off : Int} {tgt : Nat} (hdg : decode cc pc = .ok (.ifCond .le off, 3)) (ht : (pc : Int) + off = (tgt : Int)) (h1 : x < 2 ^ 31)
    (kt : x = 0 → W p l e R s m args below meth c H locs cells slots Q (F0 m tgt ls rest)) (kf : 0 < x → W p l e R s m args below meth c H locs cells slots Q (F0 m (pc + 3) ls rest)) : W p l e R s m args below meth c H locs cells slots Q (F0 m pc ls (.int (nI x) :: rest)) :=
  lv_if_le hx hb hdg ht (fun h => kt (by have := (nI_leI h1 (by decide)).mp (show nI x ≤ nI 0 from h); omega)) (fun h => kf (Nat.pos_of_ne_zero (fun q => h (by rw [q]; decide))))
theorem na_icmp_ge (hx : p.tables.exec = Jvm.exec) (hb : c.code = cc) {x y : Nat} {off : Int} {tgt : Nat} (hdg : decode cc pc = .ok (.if_icmp .ge off, 3)) (ht : (pc : Int) + off = (tgt : Int)) (h1 : x < 2 ^ 31) (h2 : y < 2 ^ 31)
    (kt : y ≤ x → W p l e R s m args below meth c H locs cells slots Q (F0 m tgt ls rest)) (kf : x < y → W p l e R s m args below meth c H locs cells slots Q (F0 m (pc + 3) ls rest)) : W p l e R s m args below meth c H locs cells slots Q (F0 m pc ls (.int (nI y) :: .int (nI x) :: rest)) :=
  lv_icmp_ge hx hb hdg ht (fun h => kt ((nI_leI h2 h1).mp h)) (fun h => kf (Nat.lt_of_not_le (fun q => h ((nI_leI h2 h1).mpr q))))
theorem na_icmp_lt (hx : p.tables.exec = Jvm.exec) (hb : c.code = cc) {x y : Nat} {off : Int} {tgt : Nat} (hdg : decode cc pc = .ok (.if_icmp .lt off, 3)) (ht : (pc : Int) + off = (tgt : Int)) (h1 : x < 2 ^ 31) (h2 : y < 2 ^ 31)
    (kt : x < y → W p l e R s m args below meth c H locs cells slots Q (F0 m tgt ls rest)) (kf : y ≤ x → W p l e R s m args below meth c H locs cells slots Q (F0 m (pc + 3) ls rest)) : W p l e R s m args below meth c H locs cells slots Q (F0 m pc ls (.int (nI y) :: .int (nI x) :: rest)) :=
  lv_icmp_lt hx hb hdg ht (fun h => kt ((nI_ltI h1 h2).mp h)) (fun h => kf (Nat.le_of_not_lt (fun q => h ((nI_ltI h1 h2).mpr q))))
theorem na_icmp_le (hx : p.tables.exec = Jvm.exec) (hb : c.code = cc) {x y : Nat} {off : Int} {tgt : Nat} (hdg : decode cc pc = .ok (.if_icmp .le off, 3)) (ht : (pc : Int) + off = (tgt : Int)) (h1 : x < 2 ^ 31) (h2 : y < 2 ^ 31)
    (kt : x ≤ y → W p l e R s m args below meth c H locs cells slots Q (F0 m tgt ls rest)) (kf : y < x → W p l e R s m args below meth c H locs cells slots Q (F0 m (pc + 3) ls rest)) : W p l e R s m args below meth c H locs cells slots Q (F0 m pc ls (.int (nI y) :: .int (nI x) :: rest)) :=
  lv_icmp_le hx hb hdg ht (fun h => kt ((nI_leI h1 h2).mp h)) (fun h => kf (Nat.lt_of_not_le (fun q => h ((nI_leI h1 h2).mpr q))))
theorem na_icmp_gt (hx : p.tables.exec = Jvm.exec) (hb : c.code = cc) {x y : Nat} {off : Int} {tgt : Nat} (hdg : decode cc pc = .ok (.if_icmp .gt off, 3)) (ht : (pc : Int) + off = (tgt : Int)) (h1 : x < 2 ^ 31) (h2 : y < 2 ^ 31)
    (kt : y < x → W p l e R s m args below meth c H locs cells slots Q (F0 m tgt ls rest)) (kf : x ≤ y → W p l e R s m args below meth c H locs cells slots Q (F0 m (pc + 3) ls rest)) : W p l e R s m args below meth c H locs cells slots Q (F0 m pc ls (.int (nI y) :: .int (nI x) :: rest)) :=
  lv_icmp_gt hx hb hdg ht (fun h => kt ((nI_ltI h2 h1).mp h)) (fun h => kf (Nat.le_of_not_lt (fun q => h ((nI_ltI h2 h1).mpr q))))
theorem na_icmp_eq (hx : p.tables.exec = Jvm.exec) (hb : c.code = cc) {x y : Nat} {off : Int} {tgt : Nat} (hdg : decode cc pc = .ok (.if_icmp .eq off, 3)) (ht : (pc : Int) + off = (tgt : Int)) (h1 : x < 2 ^ 31) (h2 : y < 2 ^ 31)
    (kt : x = y → W p l e R s m args below meth c H locs cells slots Q (F0 m tgt ls rest)) (kf : ¬ x = y → W p l e R s m args below meth c H locs cells slots Q (F0 m (pc + 3) ls rest)) : W p l e R s m args below meth c H locs cells slots Q (F0 m pc ls (.int (nI y) :: .int (nI x) :: rest)) :=
  lv_icmp_eq hx hb hdg ht (fun h => kt ((nI_eq h1 h2).mp h)) (fun h => kf (fun q => h ((nI_eq h1 h2).mpr q)))
theorem na_icmp_ne (hx : p.tables.exec = Jvm.exec) (hb : c.code = cc) {x y : Nat} {off : Int} {tgt : Nat} (hdg : decode cc pc = .ok (.if_icmp .ne off, 3)) (ht : (pc : Int) + off = (tgt : Int)) (h1 : x < 2 ^ 31) (h2 : y < 2 ^ 31)
    (kt : ¬ x = y → W p l e R s m args below meth c H locs cells slots Q (F0 m tgt ls rest)) (kf : x = y → W p l e R s m args below meth c H locs cells slots Q (F0 m (pc + 3) ls rest)) : W p l e R s m args below meth c H locs cells slots Q (F0 m pc ls (.int (nI y) :: .int (nI x) :: rest)) :=
  lv_icmp_ne hx hb hdg ht (fun h => kt (fun q => h ((nI_eq h1 h2).mpr q))) (fun h => kf ((nI_eq h1 h2).mp h))
/-! arrays -/
theorem ra_ld (hx : p.tables.exec = Jvm.exec) (hb : c.code = cc) (hK : va_K D cl tys s) (hP : va_P D cl ws H) (q0 t0 : Nat) {cA : ClassId} {n : Nat} {f : Nat → Nat} (ha : ws[q0]? = some (ad, .inl (cA, n, .inl (pa_a f)))) (ht : tys[t0]? = some (cA, .int)) {i : Nat} (hi : i < n) (hn : n < 2 ^ 31) (hdg : decode cc pc = .ok (.iaload, 1))
    (k : W p l e R s m args below meth c H locs cells slots Q (F0 m (pc + 1) ls (.int (nI (f i)) :: rest))) : W p l e R s m args below meth c H locs cells slots Q (F0 m pc ls (.int (nI i) :: .ref ad :: rest)) :=
  va_iald hx hb hK hP q0 t0 ha ht (vp_in_nI hi hn) hdg (by rw [nI_clamp (Nat.lt_trans hi hn)]; exact k)
theorem rz_ld (hx : p.tables.exec = Jvm.exec) (hb : c.code = cc) (hK : va_K D cl tys s) (hP : va_P D cl ws H) (q0 t0 : Nat) {cA : ClassId} {n : Nat} {f : Nat → Nat} (ha : ws[q0]? = some (ad, .inl (cA, n, .inl (pa_a f)))) (ht : tys[t0]? = some (cA, .boolean)) {i : Nat} (hi : i < n) (hn : n < 2 ^ 31) (hdg : decode cc pc = .ok (.baload, 1))
    (k : W p l e R s m args below meth c H locs cells slots Q (F0 m (pc + 1) ls (.int (nI (f i)) :: rest))) : W p l e R s m args below meth c H locs cells slots Q (F0 m pc ls (.int (nI i) :: .ref ad :: rest)) :=
  va_zald hx hb hK hP q0 t0 ha ht (vp_in_nI hi hn) hdg (by rw [nI_clamp (Nat.lt_trans hi hn)]; exact k)
theorem rk_ld (hx : p.tables.exec = Jvm.exec) (hb : c.code = cc) (hK : va_K D cl tys s) (hP : va_P D cl ws H) (q0 t0 : Nat) {cA : ClassId} {n : Nat} {f : Nat → Int32} (ha : ws[q0]? = some (ad, .inl (cA, n, .inl f))) (ht : tys[t0]? = some (cA, .int)) {i : Nat} (hi : i < n) (hn : n < 2 ^ 31) (hdg : decode cc pc = .ok (.iaload, 1))
    (k : W p l e R s m args below meth c H locs cells slots Q (F0 m (pc + 1) ls (.int (f i) :: rest))) : W p l e R s m args below meth c H locs cells slots Q (F0 m pc ls (.int (nI i) :: .ref ad :: rest)) :=
  va_iald hx hb hK hP q0 t0 ha ht (vp_in_nI hi hn) hdg (by rw [nI_clamp (Nat.lt_trans hi hn)]; exact k)
theorem ra_st (hx : p.tables.exec = Jvm.exec) (hb : c.code = cc) (hK : va_K D cl tys s) (hP : va_P D cl ws H) (hD : va_D A ws) (hS : va_S A H0 H locs) (q0 t0 : Nat) {cA : ClassId} {n : Nat} {f : Nat → Nat} (ha : ws[q0]? = some (ad, .inl (cA, n, .inl (pa_a f)))) (ht : tys[t0]? = some (cA, .int)) {i x : Nat} (hi : i < n) (hn : n < 2 ^ 31) (hdg : decode cc pc = .ok (.iastore, 1)) (hw : ws.set q0 (ad, .inl (cA, n, .inl (pa_a (pa_u f i x)))) = ws')
    (kk : ∀ (H1 : Heap) (locs1 : List Loc), va_P D cl ws' H1 → va_S A H0 H1 locs1 → W p l e R s m args below meth c H1 locs1 cells slots Q (F0 m (pc + 1) ls rest)) : W p l e R s m args below meth c H locs cells slots Q (F0 m pc ls (.int (nI x) :: .int (nI i) :: .ref ad :: rest)) := by
  refine va_iast hx hb hK hP hD hS q0 t0 ha ht (vp_in_nI hi hn) hdg (fun H1 locs1 hP1 hD1 hS1 => ?_)
  rw [nI_clamp (Nat.lt_trans hi hn), pa_upd, hw] at hP1
  exact kk H1 locs1 hP1 hS1
theorem rk_st (hx : p.tables.exec = Jvm.exec) (hb : c.code = cc) (hK : va_K D cl tys s) (hP : va_P D cl ws H) (hD : va_D A ws) (hS : va_S A H0 H locs) (q0 t0 : Nat) {cA : ClassId} {n : Nat} {f : Nat → Int32} (ha : ws[q0]? = some (ad, .inl (cA, n, .inl f))) (ht : tys[t0]? = some (cA, .int)) {i : Nat} {x : Int32} (hi : i < n) (hn : n < 2 ^ 31) (hdg : decode cc pc = .ok (.iastore, 1)) (hw : ws.set q0 (ad, .inl (cA, n, .inl (upd f i x))) = ws')
    (kk : ∀ (H1 : Heap) (locs1 : List Loc), va_P D cl ws' H1 → va_S A H0 H1 locs1 → W p l e R s m args below meth c H1 locs1 cells slots Q (F0 m (pc + 1) ls rest)) : W p l e R s m args below meth c H locs cells slots Q (F0 m pc ls (.int x :: .int (nI i) :: .ref ad :: rest)) := by
  refine va_iast hx hb hK hP hD hS q0 t0 ha ht (vp_in_nI hi hn) hdg (fun H1 locs1 hP1 hD1 hS1 => ?_)
  rw [nI_clamp (Nat.lt_trans hi hn), hw] at hP1
  exact kk H1 locs1 hP1 hS1
theorem pa_nz {x : Nat} (h : x < 2) : vp_nar .boolean (nI x) = nI x := by
  rcases (show x = 0 ∨ x = 1 by omega) with rfl | rfl <;> rfl
theorem rz_st (hx : p.tables.exec = Jvm.exec) (hb : c.code = cc) (hK : va_K D cl tys s) (hP : va_P D cl ws H) (hD : va_D A ws) (hS : va_S A H0 H locs) (q0 t0 : Nat) {cA : ClassId} {n : Nat} {f : Nat → Nat} (ha : ws[q0]? = some (ad, .inl (cA, n, .inl (pa_a f)))) (ht : tys[t0]? = some (cA, .boolean)) {i x : Nat} (hi : i < n) (hn : n < 2 ^ 31) (hx2 : x < 2) (hdg : decode cc pc = .ok (.bastore, 1)) (hw : ws.set q0 (ad, .inl (cA, n, .inl (pa_a (pa_u f i x)))) = ws')
    (kk : ∀ (H1 : Heap) (locs1 : List Loc), va_P D cl ws' H1 → va_S A H0 H1 locs1 → W p l e R s m args below meth c H1 locs1 cells slots Q (F0 m (pc + 1) ls rest)) : W p l e R s m args below meth c H locs cells slots Q (F0 m pc ls (.int (nI x) :: .int (nI i) :: .ref ad :: rest)) := by
  refine va_zast hx hb hK hP hD hS q0 t0 ha ht (vp_in_nI hi hn) hdg (fun H1 locs1 hP1 hD1 hS1 => ?_)
  rw [nI_clamp (Nat.lt_trans hi hn), pa_nz hx2, pa_upd, hw] at hP1
  exact kk H1 locs1 hP1 hS1
/-! fields -/
theorem x_get (hx : p.tables.exec = Jvm.exec) (hb : c.code = cc) (hts : ∀ w ∈ lw_all, w.before args s = true) (hown : s.vm.findClass RX0 = some m.cls) (hK : va_K D clA tys s) (hP : va_P D clA ws H) {fs : List Value} (he : ws[0]? = some (ad, .inr (0, fs))) (k : Nat) {idx : Nat} (hk : k < 12) (hlink : Cond.fieldLink RX0 idx RX0 (TX0 k).2.1 (TX0 k).2.2.1 ∈ lw_all) (hT : (TX0 k).1 = RX0) {v : Value} (hv : fs[k]? = some v) (hdg : decode cc pc = .ok (.getfield idx, 3))
    (kk : W p l e R s m args below meth c H locs cells slots Q (F0 m (pc + 3) ls (v :: rest))) : W p l e R s m args below meth c H locs cells slots Q (F0 m pc ls (.ref ad :: rest)) :=
  va_get (own := RX0) (ref := RX0) hx hb hts in_X0 hown hK hP 0 he rfl k hk (hts _ hlink) (fun x h => by rw [hT] at h; exact h) hv hdg kk
theorem m_get (hx : p.tables.exec = Jvm.exec) (hb : c.code = cc) (hts : ∀ w ∈ lw_all, w.before args s = true) (hown : s.vm.findClass RX1 = some m.cls) (hK : va_K D clA tys s) (hP : va_P D clA ws H) {fs : List Value} (he : ws[0]? = some (ad, .inr (1, fs))) (k : Nat) {idx : Nat} (hk : k < 4) (hlink : Cond.fieldLink RX1 idx RX1 (TX1 k).2.1 (TX1 k).2.2.1 ∈ lw_all) (hT : (TX1 k).1 = RX1) {v : Value} (hv : fs[k]? = some v) (hdg : decode cc pc = .ok (.getfield idx, 3))
    (kk : W p l e R s m args below meth c H locs cells slots Q (F0 m (pc + 3) ls (v :: rest))) : W p l e R s m args below meth c H locs cells slots Q (F0 m pc ls (.ref ad :: rest)) :=
  va_get (own := RX1) (ref := RX1) hx hb hts in_X1 hown hK hP 0 he rfl k hk (hts _ hlink) (fun x h => by rw [hT] at h; exact h) hv hdg kk
theorem x_put (hx : p.tables.exec = Jvm.exec) (hb : c.code = cc) (hts : ∀ w ∈ lw_all, w.before args s = true) (hown : s.vm.findClass RX0 = some m.cls) (hK : va_K D clA tys s) (hP : va_P D clA ws H) (hD : va_D A ws) (hS : va_S A H0 H locs) {fs : List Value} (he : ws[0]? = some (ad, .inr (0, fs))) (k : Nat) {idx : Nat} (hk : k < 12) (hlink : Cond.fieldLink RX0 idx RX0 (TX0 k).2.1 (TX0 k).2.2.1 ∈ lw_all) (hT : (TX0 k).1 = RX0) (hfin : (TX0 k).2.2.2 = false) {x : Int32} (hd : parseFieldDescriptor (TX0 k).2.2.1 = some .int) (hl : k < fs.length) (hdg : decode cc pc = .ok (.putfield idx, 3)) (hw : ws.set 0 (ad, .inr (0, fs.set k (.int x))) = ws')
    (kk : ∀ (H1 : Heap) (locs1 : List Loc), va_P D clA ws' H1 → va_S A H0 H1 locs1 → W p l e R s m args below meth c H1 locs1 cells slots Q (F0 m (pc + 3) ls rest)) : W p l e R s m args below meth c H locs cells slots Q (F0 m pc ls (.int x :: .ref ad :: rest)) := by
  subst hw
  exact va_put (own := RX0) (ref := RX0) hx hb hts in_X0 tyX0 tyX0_ok nmX0 hown hK hP hD hS 0 he rfl k hk (hts _ hlink) (fun x h => by rw [hT] at h; exact h) hfin hd rfl rfl hl hdg (fun H1 locs1 hP1 hD1 hS1 => kk H1 locs1 hP1 hS1)
theorem m_put (hx : p.tables.exec = Jvm.exec) (hb : c.code = cc) (hts : ∀ w ∈ lw_all, w.before args s = true) (hown : s.vm.findClass RX1 = some m.cls) (hK : va_K D clA tys s) (hP : va_P D clA ws H) (hD : va_D A ws) (hS : va_S A H0 H locs) {fs : List Value} (he : ws[0]? = some (ad, .inr (1, fs))) (k : Nat) {idx : Nat} (hk : k < 4) (hlink : Cond.fieldLink RX1 idx RX1 (TX1 k).2.1 (TX1 k).2.2.1 ∈ lw_all) (hT : (TX1 k).1 = RX1) (hfin : (TX1 k).2.2.2 = false) {x : Int32} (hd : parseFieldDescriptor (TX1 k).2.2.1 = some .int) (hl : k < fs.length) (hdg : decode cc pc = .ok (.putfield idx, 3)) (hw : ws.set 0 (ad, .inr (1, fs.set k (.int x))) = ws')
    (kk : ∀ (H1 : Heap) (locs1 : List Loc), va_P D clA ws' H1 → va_S A H0 H1 locs1 → W p l e R s m args below meth c H1 locs1 cells slots Q (F0 m (pc + 3) ls rest)) : W p l e R s m args below meth c H locs cells slots Q (F0 m pc ls (.int x :: .ref ad :: rest)) := by
  subst hw
  exact va_put (own := RX1) (ref := RX1) hx hb hts in_X1 tyX1 tyX1_ok nmX1 hown hK hP hD hS 0 he rfl k hk (hts _ hlink) (fun x h => by rw [hT] at h; exact h) hfin hd rfl rfl hl hdg (fun H1 locs1 hP1 hD1 hS1 => kk H1 locs1 hP1 hS1)
/-! returns -/
theorem pa_iretR (hx : p.tables.exec = Jvm.exec) (hb : c.code = cc) (hr : meth.sig.returnType = some .int) (hlk : meth.locks = false) {v r : Int32} (h : v = r) (hdg : decode cc pc = .ok (.ireturn, 1)) : W p l e R s m args below meth c s.heap [] cells slots (MQ below (QcRead r) args s cells slots (fun _ => False)) (F0 m pc ls [.int v]) :=
  W.iret hx hb hr (fun t ht _ => ⟨by rw [h], ht⟩) (fun q h => absurd h List.not_mem_nil) hdg hlk
theorem pa_zretR (hx : p.tables.exec = Jvm.exec) (hb : c.code = cc) (hr : meth.sig.returnType = some .boolean) (hlk : meth.locks = false) {v r : Int32} (h : v = r) (hn : narrow .boolean (.int v) = .int v) (hdg : decode cc pc = .ok (.ireturn, 1)) : W p l e R s m args below meth c s.heap [] cells slots (MQ below (QcRead r) args s cells slots (fun _ => False)) (F0 m pc ls [.int v]) :=
  W.zret hx hb hr hn (fun t ht _ => ⟨by rw [h], ht⟩) (fun q h => absurd h List.not_mem_nil) hdg hlk
theorem pa_iretM (hx : p.tables.exec = Jvm.exec) (hb : c.code = cc) (hr : meth.sig.returnType = some .int) (hlk : meth.locks = false) {v r : Int32} (h : v = r) (hP : va_P D cl ws' H) (hS : va_S A s.heap H locs) (hdg : decode cc pc = .ok (.ireturn, 1)) : W p l e R s m args below meth c H locs cells slots (MQ below (QcXi r D cl ws' A) args s cells slots A) (F0 m pc ls [.int v]) :=
  W.iret hx hb hr (fun t ht _ => ⟨by rw [h], by rw [ht]; exact hP, hS.F ht⟩) hS.2.2 hdg hlk
theorem pa_vretM (hx : p.tables.exec = Jvm.exec) (hb : c.code = cc) (hr : meth.sig.returnType = none) (hlk : meth.locks = false) (hP : va_P D cl ws' H) (hS : va_S A s.heap H locs) (hdg : decode cc pc = .ok (.return_, 1)) : W p l e R s m args below meth c H locs cells slots (MQ below (QcXv D cl ws' A) args s cells slots A) (F0 m pc ls []) :=
  W.vret hx hb hr (fun t ht _ => ⟨rfl, by rw [ht]; exact hP, hS.F ht⟩) hS.2.2 hdg hlk
/-! calls -/
variable {y : MethodName} {bytes : ByteArray} {maxL nL idx n ci : Nat} {ret : Option FieldType} {rm : Room} {own : String} {q : vw_C} {fs As : List Value} {st0 : List Value}
/-- a call of a method that only reads -/
theorem pa_callR {r : Int32} (S : CallFix p m c cc nL s args lw_all own) (hM : Met l y (ws_ y bytes maxL ret) rm (PcX D cl tys (.ref ad :: As) ws) (QcRead r) 0 0 (fun _ => False)) (hK : va_K D cl tys s) (hP : va_P D cl ws H) (hc : cl[ci]? = some q) (he : ws[0]? = some (ad, .inr (ci, fs))) (hlw : GoodIn lw_all (wsV own idx q.1 y (ws_ y bytes maxL ret))) (hrc : rm.cells = 0) (hrs : rm.slots = 0)
    (hd : y.cls = q.1 ∧ y.cls ≠ "java/lang/invoke/MethodHandle" ∧ y.cls ≠ "java/lang/invoke/VarHandle" ∧ (parseMethodDescriptor y.desc).map (fun d => d.parameters.length) = some n) (hR : rm.frames + 1 ≤ R.frames ∧ 8 + (maxL + 11) + rm.locals ≤ R.locals) (hn : As.length = n) (hsz : ls.size = nL) (hst : st0 = As.reverse ++ .ref ad :: rest) (hW : (rest.map fun v => v.category).sum ≤ 8) (hdg : decode cc pc = .ok (.invokevirtual idx, 3)) (hf : cells ≤ R.cells ∧ slots ≤ R.slots)
    (kk : W p l e R s m args below meth c H locs cells slots Q (F0 m (pc + 3) ls (.int r :: rest))) : W p l e R s m args below meth c H locs cells slots Q (F0 m pc ls st0) :=
  W.callR (W.runV (As := As) (rest := rest) S hM (cwV n S.2.2.2.2 hlw rfl hrc hrs hd hR) (pa_preV hK hP hc he) rfl hn hsz hst (lv_room hW) hdg hf) kk
/-- a call of a method that changes its own cells, and answers an int -/
theorem pa_callM {r : Int32} (S : CallFix p m c cc nL s args lw_all own) (hM : Met l y (ws_ y bytes maxL ret) rm (PcX D cl tys (.ref ad :: As) ws) (QcXi r D cl ws' A) 0 0 A) (hK : va_K D cl tys s) (hP : va_P D cl ws H) (hS : va_S A0 H0 H locs) (hA : ∀ q, A q → A0 q) (hc : cl[ci]? = some q) (he : ws[0]? = some (ad, .inr (ci, fs))) (hlw : GoodIn lw_all (wsV own idx q.1 y (ws_ y bytes maxL ret))) (hrc : rm.cells = 0) (hrs : rm.slots = 0)
    (hd : y.cls = q.1 ∧ y.cls ≠ "java/lang/invoke/MethodHandle" ∧ y.cls ≠ "java/lang/invoke/VarHandle" ∧ (parseMethodDescriptor y.desc).map (fun d => d.parameters.length) = some n) (hR : rm.frames + 1 ≤ R.frames ∧ 8 + (maxL + 11) + rm.locals ≤ R.locals) (hn : As.length = n) (hsz : ls.size = nL) (hst : st0 = As.reverse ++ .ref ad :: rest) (hW : (rest.map fun v => v.category).sum ≤ 8) (hdg : decode cc pc = .ok (.invokevirtual idx, 3)) (hf : cells ≤ R.cells ∧ slots ≤ R.slots)
    (kk : ∀ (H1 : Heap) (locs1 : List Loc), va_P D cl ws' H1 → va_S A0 H0 H1 locs1 → (∀ q : Nat, q < H.size → ¬ A q → H1[q]? = H[q]?) → W p l e R s m args below meth c H1 locs1 cells slots Q (F0 m (pc + 3) ls (.int r :: rest))) : W p l e R s m args below meth c H locs cells slots Q (F0 m pc ls st0) := by
  have hr := va_runV (p := p) (l := l) (e := e) (below := below) (meth := meth) (locs := locs) (cells := cells) (slots := slots) (g := F0 m pc ls st0) (As := As) (rest := rest) S hM (cwV n S.2.2.2.2 hlw rfl hrc hrs hd hR) (pa_preV hK hP hc he) rfl hn hsz hst (lv_room hW) hdg hf
  intro T hT X
  obtain ⟨v, st₀, t, T', L, h0, X', hL, e1, e2, ⟨hv, hp, hz, hk⟩, st⟩ := hr T hT X
  cases hv
  rw [h0] at hz hk
  obtain ⟨t2, a1, b1⟩ := kk T'.heap (locs ++ L) (by rw [e1]; exact hp)
    ⟨Nat.le_trans hS.1 (by rw [e1]; exact hz), fun q h1 h2 => by rw [e1, hk q (Nat.lt_of_lt_of_le h1 hS.1) (fun z => h2 (hA q z))]; exact hS.2.1 q h1 h2, fun q hq => by
      rcases List.mem_append.mp hq with h | h
      · exact hS.2.2 q h
      · exact hA _ (hL q h)⟩ (fun q h1 h2 => by rw [e1]; exact hk q h1 h2) T' rfl X'
  exact ⟨t2, st t2 a1, b1⟩
theorem pa_callV (S : CallFix p m c cc nL s args lw_all own) (hM : Met l y (ws_ y bytes maxL ret) rm (PcX D cl tys (.ref ad :: As) ws) (QcXv D cl ws' A) 0 0 A) (hK : va_K D cl tys s) (hP : va_P D cl ws H) (hS : va_S A0 H0 H locs) (hA : ∀ q, A q → A0 q) (hc : cl[ci]? = some q) (he : ws[0]? = some (ad, .inr (ci, fs))) (hlw : GoodIn lw_all (wsV own idx q.1 y (ws_ y bytes maxL ret))) (hrc : rm.cells = 0) (hrs : rm.slots = 0)
    (hd : y.cls = q.1 ∧ y.cls ≠ "java/lang/invoke/MethodHandle" ∧ y.cls ≠ "java/lang/invoke/VarHandle" ∧ (parseMethodDescriptor y.desc).map (fun d => d.parameters.length) = some n) (hR : rm.frames + 1 ≤ R.frames ∧ 8 + (maxL + 11) + rm.locals ≤ R.locals) (hn : As.length = n) (hsz : ls.size = nL) (hst : st0 = As.reverse ++ .ref ad :: rest) (hW : (rest.map fun v => v.category).sum ≤ 8) (hdg : decode cc pc = .ok (.invokevirtual idx, 3)) (hf : cells ≤ R.cells ∧ slots ≤ R.slots)
    (kk : ∀ (H1 : Heap) (locs1 : List Loc), va_P D cl ws' H1 → va_S A0 H0 H1 locs1 → (∀ q : Nat, q < H.size → ¬ A q → H1[q]? = H[q]?) → W p l e R s m args below meth c H1 locs1 cells slots Q (F0 m (pc + 3) ls rest)) : W p l e R s m args below meth c H locs cells slots Q (F0 m pc ls st0) := by
  have hr := va_runV (p := p) (l := l) (e := e) (below := below) (meth := meth) (locs := locs) (cells := cells) (slots := slots) (g := F0 m pc ls st0) (As := As) (rest := rest) S hM (cwV n S.2.2.2.2 hlw rfl hrc hrs hd hR) (pa_preV hK hP hc he) rfl hn hsz hst (lv_room hW) hdg hf
  intro T hT X
  obtain ⟨v, st₀, t, T', L, h0, X', hL, e1, e2, ⟨hv, hp, hz, hk⟩, st⟩ := hr T hT X
  cases hv
  rw [h0] at hz hk
  obtain ⟨t2, a1, b1⟩ := kk T'.heap (locs ++ L) (by rw [e1]; exact hp)
    ⟨Nat.le_trans hS.1 (by rw [e1]; exact hz), fun q h1 h2 => by rw [e1, hk q (Nat.lt_of_lt_of_le h1 hS.1) (fun z => h2 (hA q z))]; exact hS.2.1 q h1 h2, fun q hq => by
      rcases List.mem_append.mp hq with h | h
      · exact hS.2.2 q h
      · exact hA _ (hL q h)⟩ (fun q h1 h2 => by rw [e1]; exact hk q h1 h2) T' rfl X'
  exact ⟨t2, st t2 a1, b1⟩
/-- a static call that only looks at its argument -/
theorem pa_callS {r : Int32} (S : CallFix p m c cc nL s args lw_all own) (hM : Met l y (ws_ y bytes maxL ret) rm (fun v _ => v = As.toArray) (QcRead r) 0 0 (fun _ => False)) (hlw : GoodIn lw_all (va_wsS own idx y (ws_ y bytes maxL ret))) (hrc : rm.cells = 0) (hrs : rm.slots = 0)
    (hd : y.cls ≠ "java/lang/invoke/MethodHandle" ∧ y.cls ≠ "java/lang/invoke/VarHandle" ∧ (parseMethodDescriptor y.desc).map (fun d => d.parameters.length) = some n) (hR : rm.frames + 1 ≤ R.frames ∧ 8 + (maxL + 11) + rm.locals ≤ R.locals) (hn : As.length = n) (hsz : ls.size = nL) (hst : st0 = As.reverse ++ rest) (hW : (rest.map fun v => v.category).sum ≤ 8) (hdg : decode cc pc = .ok (.invokestatic idx, 3)) (hf : cells ≤ R.cells ∧ slots ≤ R.slots)
    (kk : W p l e R s m args below meth c H locs cells slots Q (F0 m (pc + 3) ls (.int r :: rest))) : W p l e R s m args below meth c H locs cells slots Q (F0 m pc ls st0) :=
  W.callR (W.runS (As := As) (rest := rest) S hM (va_cwS n S.2.2.2.2 hlw rfl hrc hrs hd hR) preEq rfl hn hsz hst (lv_room hW) hdg hf) kk
/-! loops: the counter i, the other values x, the locals L i x, the cells ws i x, the invariant I i x -/
theorem pa_lpr {σ : Type} (I : Nat → σ → Prop) (L : Nat → σ → List (Nat × Value)) (lo hi : Nat) (hle : lo ≤ hi) (x0 : σ) (hI : I lo x0) (h0 : lv_has ls nL (L lo x0))
    (step : ∀ (i : Nat) (x : σ) (ls : Array Slot), lo ≤ i → i < hi → I i x → lv_has ls nL (L i x) → (∀ (x' : σ) (ls : Array Slot), I (i + 1) x' → lv_has ls nL (L (i + 1) x') → W p l e R s m args below meth c H locs cells slots Q (F0 m pc ls [])) → W p l e R s m args below meth c H locs cells slots Q (F0 m pc ls []))
    (fin : ∀ (x : σ) (ls : Array Slot), I hi x → lv_has ls nL (L hi x) → W p l e R s m args below meth c H locs cells slots Q (F0 m pc ls [])) : W p l e R s m args below meth c H locs cells slots Q (F0 m pc ls []) := by
  have key : ∀ (n i : Nat) (x : σ) (ls : Array Slot), i + n = hi → lo ≤ i → I i x → lv_has ls nL (L i x) → W p l e R s m args below meth c H locs cells slots Q (F0 m pc ls []) := by
    intro n
    induction n with
    | zero =>
      intro i x ls h1 h2 h3 h4
      have h5 : i = hi := by omega
      subst h5
      exact fin x ls h3 h4
    | succ n ih =>
      intro i x ls h1 h2 h3 h4
      exact step i x ls h2 (by omega) h3 h4 (fun x' ls' g1 g2 => ih (i + 1) x' ls' (by omega) (by omega) g1 g2)
  exact key (hi - lo) lo x0 ls (by omega) (Nat.le_refl _) hI h0
theorem pa_lpm {σ : Type} (I : Nat → σ → Prop) (L : Nat → σ → List (Nat × Value)) (ws : Nat → σ → va_W) (lo hi : Nat) (hle : lo ≤ hi) (x0 : σ) (hI : I lo x0) (h0 : lv_has ls nL (L lo x0)) (hP : va_P D cl (ws lo x0) H) (hS : va_S A H0 H locs)
    (step : ∀ (i : Nat) (x : σ) (H : Heap) (locs : List Loc) (ls : Array Slot), lo ≤ i → i < hi → I i x → lv_has ls nL (L i x) → va_P D cl (ws i x) H → va_S A H0 H locs → (∀ (x' : σ) (H : Heap) (locs : List Loc) (ls : Array Slot), I (i + 1) x' → lv_has ls nL (L (i + 1) x') → va_P D cl (ws (i + 1) x') H → va_S A H0 H locs → W p l e R s m args below meth c H locs cells slots Q (F0 m pc ls [])) → W p l e R s m args below meth c H locs cells slots Q (F0 m pc ls []))
    (fin : ∀ (x : σ) (H : Heap) (locs : List Loc) (ls : Array Slot), I hi x → lv_has ls nL (L hi x) → va_P D cl (ws hi x) H → va_S A H0 H locs → W p l e R s m args below meth c H locs cells slots Q (F0 m pc ls [])) : W p l e R s m args below meth c H locs cells slots Q (F0 m pc ls []) := by
  have key : ∀ (n i : Nat) (x : σ) (H : Heap) (locs : List Loc) (ls : Array Slot), i + n = hi → lo ≤ i → I i x → lv_has ls nL (L i x) → va_P D cl (ws i x) H → va_S A H0 H locs → W p l e R s m args below meth c H locs cells slots Q (F0 m pc ls []) := by
    intro n
    induction n with
    | zero =>
      intro i x H locs ls h1 h2 h3 h4 h5 h6
      have h7 : i = hi := by omega
      subst h7
      exact fin x H locs ls h3 h4 h5 h6
    | succ n ih =>
      intro i x H locs ls h1 h2 h3 h4 h5 h6
      exact step i x H locs ls h2 (by omega) h3 h4 h5 h6 (fun x' H' locs' ls' g1 g2 g3 g4 => ih (i + 1) x' H' locs' ls' (by omega) (by omega) g1 g2 g3 g4)
  exact key (hi - lo) lo x0 H locs ls (by omega) (Nat.le_refl _) hI h0 hP hS
end PA
end
section
/-! ===== what the methods compute, without the machine: the walk's words ===== -/
def pf_xs : Nat → Nat
  | 0 => 1
  | k + 1 => if 255 < pf_xs k * 2 then (pf_xs k * 2) ^^^ 285 else pf_xs k * 2
def pf_pow : Nat → Nat → Nat
  | 0 => fun _ => 0
  | k + 1 => pa_u (pf_pow k) k (pf_xs k)
def pf_exp : Nat → Nat → Nat
  | 0 => fun _ => 0
  | k + 1 => pa_u (pf_exp k) (pf_xs k) k
def pf_P : Nat → Nat := pa_u (pf_pow 255) 255 1
def pf_E : Nat → Nat := pf_exp 255
def pf_mul (x y : Nat) : Nat := if x = 0 then 0 else if y = 0 then 0 else pf_P ((pf_E x + pf_E y) % 255)
def pf_inv (x : Nat) : Nat := pf_P ((255 - pf_E x) % 255)
def pf_fac (r b : Nat) : Nat := pf_inv ((8 + r) ^^^ b)
theorem pf_xor_lt {a b : Nat} (ha : a < 256) (hb : b < 256) : a ^^^ b < 256 := Nat.xor_lt_two_pow (n := 8) ha hb
theorem pf_xs_step : ∀ y, y < 256 → (if 255 < y * 2 then (y * 2) ^^^ 285 else y * 2) < 256 := by decide +kernel
theorem pf_xs_lt : ∀ k, pf_xs k < 256
  | 0 => by decide
  | k + 1 => pf_xs_step _ (pf_xs_lt k)
theorem pf_pow_lt : ∀ k j, pf_pow k j < 256
  | 0, _ => by show 0 < 256; decide
  | k + 1, j => pa_ub (fun j => pf_pow_lt k j) (pf_xs_lt k) j
theorem pf_exp_le : ∀ k j, pf_exp k j < k + 1
  | 0, _ => by show 0 < 1; decide
  | k + 1, j => pa_ub (B := k + 2) (fun j => Nat.lt_succ_of_lt (pf_exp_le k j)) (by omega) j
theorem pf_P_lt (j : Nat) : pf_P j < 256 := pa_ub (fun j => pf_pow_lt 255 j) (by decide) j
theorem pf_E_lt (j : Nat) : pf_E j < 256 := pf_exp_le 255 j
theorem pf_mul_lt (x y : Nat) : pf_mul x y < 256 := by
  unfold pf_mul
  split
  · decide
  · split
    · decide
    · exact pf_P_lt _
theorem pf_inv_lt (x : Nat) : pf_inv x < 256 := pf_P_lt _
theorem pf_fac_lt (r b : Nat) : pf_fac r b < 256 := pf_P_lt _
theorem pf_mark_lt {r b : Nat} (hr : r < 4) (hb : b < 6) : (8 + r) ^^^ b < 256 := pf_xor_lt (by omega) (by omega)
/-- the check value of a block, its first k bytes -/
def pf_sum (da : Nat → Nat) (b : Nat) : Nat → Int32
  | 0 => 17
  | k + 1 => pf_sum da b k * 16777619 + nI (da (b * 8 + k))
def pf_st (da th : Nat → Nat) (ck : Nat → Int32) (b : Nat) : Nat := if th b = 0 then 1 else if pf_sum da b 8 = ck b then 0 else 2
theorem pf_st_lt (da th : Nat → Nat) (ck : Nat → Int32) (b : Nat) : pf_st da th ck b < 3 := by
  unfold pf_st
  split
  · decide
  · split <;> decide
def pf_bad (da th : Nat → Nat) (ck : Nat → Int32) : Nat → Nat
  | 0 => 0
  | k + 1 => if pf_st da th ck k = 0 then pf_bad da th ck k else pf_bad da th ck k + 1
theorem pf_bad_le (da th : Nat → Nat) (ck : Nat → Int32) : ∀ k, pf_bad da th ck k ≤ k
  | 0 => Nat.le_refl _
  | k + 1 => by
    have := pf_bad_le da th ck k
    unfold pf_bad
    split <;> omega
def pf_good (rt : Nat → Nat) : Nat → Nat
  | 0 => 0
  | k + 1 => if rt k = 0 then pf_good rt k else pf_good rt k + 1
theorem pf_good_le (rt : Nat → Nat) : ∀ k, pf_good rt k ≤ k
  | 0 => Nat.le_refl _
  | k + 1 => by
    have := pf_good_le rt k
    unfold pf_good
    split <;> omega
/-- a recovery block's byte i, over the first k blocks -/
def pf_rs (da : Nat → Nat) (r i : Nat) : Nat → Nat
  | 0 => 0
  | k + 1 => pf_rs da r i k ^^^ pf_mul (pf_fac r k) (da (k * 8 + i))
theorem pf_rs_lt (da : Nat → Nat) (r i : Nat) : ∀ k, pf_rs da r i k < 256
  | 0 => by show 0 < 256; decide
  | k + 1 => pf_xor_lt (pf_rs_lt da r i k) (pf_mul_lt _ _)
def pf_mk (da re : Nat → Nat) (r : Nat) : Nat → Nat → Nat
  | 0 => re
  | k + 1 => pa_u (pf_mk da re r k) (r * 8 + k) (pf_rs da r k 6)
theorem pf_mk_lt {da re : Nat → Nat} {r : Nat} (h : ∀ j, re j < 256) : ∀ k j, pf_mk da re r k j < 256
  | 0, j => h j
  | k + 1, j => pa_ub (fun j => pf_mk_lt h k j) (pf_rs_lt _ _ _ _) j
/-- write: the recovery blocks follow -/
def pf_wr (re : Nat → Nat) (b i x : Nat) : Nat → Nat → Nat
  | 0 => re
  | k + 1 => pa_u (pf_wr re b i x k) (k * 8 + i) (pf_wr re b i x k (k * 8 + i) ^^^ pf_mul (pf_fac k b) x)
theorem pf_wr_lt {re : Nat → Nat} {b i x : Nat} (h : ∀ j, re j < 256) : ∀ k j, pf_wr re b i x k j < 256
  | 0, j => h j
  | k + 1, j => pa_ub (fun j => pf_wr_lt h k j) (pf_xor_lt (pf_wr_lt h k _) (pf_mul_lt _ _)) j
/-- protect, and the end of a repair -/
def pf_pr (da re : Nat → Nat) : Nat → Nat → Nat
  | 0 => re
  | k + 1 => pf_mk da (pf_pr da re k) k 8
theorem pf_pr_lt {da re : Nat → Nat} (h : ∀ j, re j < 256) : ∀ k j, pf_pr da re k j < 256
  | 0, j => h j
  | k + 1, j => pf_mk_lt (fun j => pf_pr_lt h k j) 8 j
def pf_pt (rt : Nat → Nat) : Nat → Nat → Nat
  | 0 => rt
  | k + 1 => pa_u (pf_pt rt k) k 1
theorem pf_pt_lt {rt : Nat → Nat} (h : ∀ j, rt j < 2) : ∀ k j, pf_pt rt k j < 2
  | 0, j => h j
  | k + 1, j => pa_ub (fun j => pf_pt_lt h k j) (by decide) j
/-- the list of missing blocks -/
def pf_lm (da th : Nat → Nat) (ck : Nat → Int32) (mb : Nat → Nat) : Nat → Nat → Nat
  | 0 => mb
  | k + 1 => if pf_st da th ck k = 0 then pf_lm da th ck mb k else pa_u (pf_lm da th ck mb k) (pf_bad da th ck k) k
theorem pf_lm_lt {da th : Nat → Nat} {ck : Nat → Int32} {mb : Nat → Nat} (h : ∀ j, mb j < 6) : ∀ k, k ≤ 6 → ∀ j, pf_lm da th ck mb k j < 6
  | 0, _, j => h j
  | k + 1, hk, j => by
    unfold pf_lm
    split
    · exact pf_lm_lt h k (by omega) j
    · exact pa_ub (fun j => pf_lm_lt h k (by omega) j) (by omega) j
/-- the recovery blocks that are used -/
def pf_us (rt : Nat → Nat) (ms : Nat) (ur : Nat → Nat) : Nat → Nat → Nat
  | 0 => ur
  | r + 1 => if rt r = 0 ∨ ms ≤ pf_good rt r then pf_us rt ms ur r else pa_u (pf_us rt ms ur r) (pf_good rt r) r
theorem pf_us_lt {rt : Nat → Nat} {ms : Nat} {ur : Nat → Nat} (h : ∀ j, ur j < 4) : ∀ r, r ≤ 4 → ∀ j, pf_us rt ms ur r j < 4
  | 0, _, j => h j
  | r + 1, hr, j => by
    unfold pf_us
    split
    · exact pf_us_lt h r (by omega) j
    · exact pa_ub (fun j => pf_us_lt h r (by omega) j) (by omega) j
/-- is block b among the first k that are listed -/
def pf_im (mb : Nat → Nat) (b : Nat) : Nat → Nat
  | 0 => 0
  | k + 1 => if mb k = b then 1 else pf_im mb b k
/-- a recovery block's byte less the blocks that are there -/
def pf_rst (da re : Nat → Nat) (ms : Nat) (mb : Nat → Nat) (r i : Nat) : Nat → Nat
  | 0 => re (r * 8 + i)
  | k + 1 => if pf_im mb k ms = 0 then pf_rst da re ms mb r i k ^^^ pf_mul (pf_fac r k) (da (k * 8 + i)) else pf_rst da re ms mb r i k
theorem pf_rst_lt {da re : Nat → Nat} {ms : Nat} {mb : Nat → Nat} {r i : Nat} (h : ∀ j, re j < 256) : ∀ k, pf_rst da re ms mb r i k < 256
  | 0 => h _
  | k + 1 => by
    unfold pf_rst
    split
    · exact pf_xor_lt (pf_rst_lt h k) (pf_mul_lt _ _)
    · exact pf_rst_lt h k
/-- an equation's factors, its right sides, all equations -/
def pf_sa (ur mb : Nat → Nat) (g : Nat) (eq : Nat → Nat) : Nat → Nat → Nat
  | 0 => eq
  | j + 1 => pa_u (pf_sa ur mb g eq j) (g * 12 + j) (pf_fac (ur g) (mb j))
def pf_sb (da re : Nat → Nat) (ms : Nat) (mb ur : Nat → Nat) (g : Nat) (eq : Nat → Nat) : Nat → Nat → Nat
  | 0 => eq
  | i + 1 => pa_u (pf_sb da re ms mb ur g eq i) (g * 12 + ms + i) (pf_rst da re ms mb (ur g) i 6)
def pf_se (da re : Nat → Nat) (ms : Nat) (mb ur eq : Nat → Nat) : Nat → Nat → Nat
  | 0 => eq
  | g + 1 => pf_sb da re ms mb ur g (pf_sa ur mb g (pf_se da re ms mb ur eq g) ms) 8
theorem pf_sa_lt {ur mb : Nat → Nat} {g : Nat} {eq : Nat → Nat} (h : ∀ j, eq j < 256) : ∀ k j, pf_sa ur mb g eq k j < 256
  | 0, j => h j
  | k + 1, j => pa_ub (fun j => pf_sa_lt h k j) (pf_fac_lt _ _) j
theorem pf_sb_lt {da re : Nat → Nat} {ms : Nat} {mb ur : Nat → Nat} {g : Nat} {eq : Nat → Nat} (hre : ∀ j, re j < 256) (h : ∀ j, eq j < 256) : ∀ k j, pf_sb da re ms mb ur g eq k j < 256
  | 0, j => h j
  | k + 1, j => pa_ub (fun j => pf_sb_lt hre h k j) (pf_rst_lt hre 6) j
theorem pf_se_lt {da re : Nat → Nat} {ms : Nat} {mb ur : Nat → Nat} {eq : Nat → Nat} (hre : ∀ j, re j < 256) (h : ∀ j, eq j < 256) : ∀ k j, pf_se da re ms mb ur eq k j < 256
  | 0, j => h j
  | k + 1, j => pf_sb_lt hre (pf_sa_lt (pf_se_lt hre h k) ms) 8 j
/-- eliminate: row k is scaled; then taken off row g -/
def pf_ea (k v : Nat) (eq : Nat → Nat) : Nat → Nat → Nat
  | 0 => eq
  | j + 1 => pa_u (pf_ea k v eq j) (k * 12 + j) (pf_mul v (pf_ea k v eq j (k * 12 + j)))
def pf_er (k g f : Nat) (eq : Nat → Nat) : Nat → Nat → Nat
  | 0 => eq
  | j + 1 => pa_u (pf_er k g f eq j) (g * 12 + j) (pf_er k g f eq j (g * 12 + j) ^^^ pf_mul f (pf_er k g f eq j (k * 12 + j)))
def pf_eg (ms k : Nat) (eq : Nat → Nat) : Nat → Nat → Nat
  | 0 => eq
  | g + 1 => if g = k then pf_eg ms k eq g else pf_er k g (pf_eg ms k eq g (g * 12 + k)) (pf_eg ms k eq g) (ms + 8)
def pf_el (ms k : Nat) (eq : Nat → Nat) : Nat → Nat := pf_eg ms k (pf_ea k (pf_inv (eq (k * 12 + k))) eq (ms + 8)) ms
theorem pf_ea_lt {k v : Nat} {eq : Nat → Nat} (h : ∀ j, eq j < 256) : ∀ n j, pf_ea k v eq n j < 256
  | 0, j => h j
  | n + 1, j => pa_ub (fun j => pf_ea_lt h n j) (pf_mul_lt _ _) j
theorem pf_er_lt {k g f : Nat} {eq : Nat → Nat} (h : ∀ j, eq j < 256) : ∀ n j, pf_er k g f eq n j < 256
  | 0, j => h j
  | n + 1, j => pa_ub (fun j => pf_er_lt h n j) (pf_xor_lt (pf_er_lt h n _) (pf_mul_lt _ _)) j
theorem pf_eg_lt {ms k : Nat} {eq : Nat → Nat} (h : ∀ j, eq j < 256) : ∀ n j, pf_eg ms k eq n j < 256
  | 0, j => h j
  | n + 1, j => by
    unfold pf_eg
    split
    · exact pf_eg_lt h n j
    · exact pf_er_lt (pf_eg_lt h n) _ j
theorem pf_el_lt {ms k : Nat} {eq : Nat → Nat} (h : ∀ j, eq j < 256) (j : Nat) : pf_el ms k eq j < 256 := pf_eg_lt (pf_ea_lt h _) ms j
def pf_ro (ms : Nat) (eq : Nat → Nat) : Nat → Nat → Nat
  | 0 => eq
  | k + 1 => pf_el ms k (pf_ro ms eq k)
theorem pf_ro_lt {ms : Nat} {eq : Nat → Nat} (h : ∀ j, eq j < 256) : ∀ n j, pf_ro ms eq n j < 256
  | 0, j => h j
  | n + 1, j => pf_el_lt (pf_ro_lt h n) j
/-- a block's bytes are put back; all of them -/
def pf_pb (da : Nat → Nat) (b : Nat) (v : Nat → Nat) : Nat → Nat → Nat
  | 0 => da
  | i + 1 => pa_u (pf_pb da b v i) (b * 8 + i) (v i)
theorem pf_pb_lt {da : Nat → Nat} {b : Nat} {v : Nat → Nat} (h : ∀ j, da j < 256) (hv : ∀ j, v j < 256) : ∀ n j, pf_pb da b v n j < 256
  | 0, j => h j
  | n + 1, j => pa_ub (fun j => pf_pb_lt h hv n j) (hv n) j
/-- v j i: byte i of the j-th listed block -/
def pf_qd (mb : Nat → Nat) (v : Nat → Nat → Nat) (da : Nat → Nat) : Nat → Nat → Nat
  | 0 => da
  | j + 1 => pf_pb (pf_qd mb v da j) (mb j) (v j) 8
def pf_qt (mb : Nat → Nat) (th : Nat → Nat) : Nat → Nat → Nat
  | 0 => th
  | j + 1 => pa_u (pf_qt mb th j) (mb j) 1
def pf_qc (mb : Nat → Nat) (v : Nat → Nat → Nat) (da : Nat → Nat) (ck : Nat → Int32) : Nat → Nat → Int32
  | 0 => ck
  | j + 1 => upd (pf_qc mb v da ck j) (mb j) (pf_sum (pf_qd mb v da (j + 1)) (mb j) 8)
theorem pf_qd_lt {mb : Nat → Nat} {v : Nat → Nat → Nat} {da : Nat → Nat} (h : ∀ j, da j < 256) (hv : ∀ i j, v i j < 256) : ∀ n j, pf_qd mb v da n j < 256
  | 0, j => h j
  | n + 1, j => pf_pb_lt (pf_qd_lt h hv n) (hv n) 8 j
theorem pf_qt_lt {mb th : Nat → Nat} (h : ∀ j, th j < 2) : ∀ n j, pf_qt mb th n j < 2
  | 0, j => h j
  | n + 1, j => pa_ub (fun j => pf_qt_lt h n j) (by decide) j
/-! the reference -/
def pf_ng (st : Nat → Nat) : Nat → Nat
  | 0 => 0
  | k + 1 => if st k = 0 then pf_ng st k else pf_ng st k + 1
theorem pf_ng_le (st : Nat → Nat) : ∀ k, pf_ng st k ≤ k
  | 0 => Nat.le_refl _
  | k + 1 => by
    have := pf_ng_le st k
    unfold pf_ng
    split <;> omega
def pf_sp (lo : Nat → Nat) : Nat → Nat
  | 0 => 0
  | k + 1 => if lo k = 0 then pf_sp lo k + 1 else pf_sp lo k
theorem pf_sp_le (lo : Nat → Nat) : ∀ k, pf_sp lo k ≤ k
  | 0 => Nat.le_refl _
  | k + 1 => by
    have := pf_sp_le lo k
    unfold pf_sp
    split <;> omega
/-- the first k places are made 0 -/
def pf_z (f : Nat → Nat) : Nat → Nat → Nat
  | 0 => f
  | k + 1 => pa_u (pf_z f k) k 0
/-- the first k bytes, those of blocks that aren't good, are made 0 -/
def pf_zr (st rl : Nat → Nat) : Nat → Nat → Nat
  | 0 => rl
  | k + 1 => if st (k / 8) = 0 then pf_zr st rl k else pa_u (pf_zr st rl k) k 0
end
section
set_option maxRecDepth 100000
set_option maxHeartbeats 4000000 in
/-- times(x, y) -/
theorem m_times (l : Launch) {D : va_G} {a : Nat → Nat} {cI cZ : ClassId} {da th : Nat → Nat} {ck : Nat → Int32} {rc : Nat} {re rt : Nat → Nat} {ms : Nat} {mb ur eq : Nat → Nat} {x y : Nat} (hx1 : x < 256) (hy1 : y < 256) : Met l yX0_times (ws_ yX0_times cX0_times 3 (some .int)) (pa_rm 0 0) (PcX D clA [(cI, .int), (cZ, .boolean)] [.ref (a 0), .int (nI x), .int (nI y)] (WX a cI cZ pf_P pf_E da th ck rc re rt ms mb ur eq)) (QcRead (nI (pf_mul x y))) 0 0 (fun _ => False) := by
  refine pa_enter (by decide) (Nat.le_of_ble_eq_true rfl) (fun p e s m below meth c ls hx hb hr hlk hml hown hin hts hP hK hl => ?_)
  have hown : s.vm.findClass RX0 = some m.cls := hown
  have hl : lv_has ls 3 [(0, .ref (a 0)), (1, .int (nI x)), (2, .int (nI y))] := hl
  refine lv_iload_n hx hb dX0_times_0 rfl (lv_at hl 1 rfl) ?_
  refine na_if_eq (tgt := 8) hx hb dX0_times_1 (by decide) (by omega) (fun hc => ?_) (fun hc => ?_)
  · skip
    refine lv_iconst (v := nI 0) hx hb dX0_times_8 (by decide) ?_
    exact pa_iretR hx hb hr hlk (by rw [hc]; rfl) dX0_times_9
  · skip
    refine lv_iload_n hx hb dX0_times_4 rfl (lv_at hl 2 rfl) ?_
    refine na_if_ne (tgt := 10) hx hb dX0_times_5 (by decide) (by omega) (fun hd => ?_) (fun hd => ?_)
    · skip
      refine lv_aload_n hx hb dX0_times_10 rfl (lv_at hl 0 rfl) ?_
      refine x_get hx hb hts hown hK hP rfl 0 (by decide) q33 rfl rfl dX0_times_11 ?_
      refine lv_aload_n hx hb dX0_times_14 rfl (lv_at hl 0 rfl) ?_
      refine x_get hx hb hts hown hK hP rfl 1 (by decide) q34 rfl rfl dX0_times_15 ?_
      refine lv_iload_n hx hb dX0_times_18 rfl (lv_at hl 1 rfl) ?_
      refine ra_ld hx hb hK hP 2 0 rfl rfl hx1 (by decide) dX0_times_19 ?_
      refine lv_aload_n hx hb dX0_times_20 rfl (lv_at hl 0 rfl) ?_
      refine x_get hx hb hts hown hK hP rfl 1 (by decide) q34 rfl rfl dX0_times_21 ?_
      refine lv_iload_n hx hb dX0_times_24 rfl (lv_at hl 2 rfl) ?_
      refine ra_ld hx hb hK hP 2 0 rfl rfl hy1 (by decide) dX0_times_25 ?_
      refine na_add hx hb dX0_times_26 ?_
      refine lv_sipush (v := nI 255) hx hb dX0_times_27 (by decide) ?_
      refine na_rem hx hb dX0_times_30 (by have := pf_E_lt x; have := pf_E_lt y; omega) (by decide) (by decide) ?_
      refine ra_ld hx hb hK hP 1 0 rfl rfl (by have := Nat.mod_lt (pf_E x + pf_E y) (show 0 < 255 by decide); omega) (by decide) dX0_times_31 ?_
      exact pa_iretR hx hb hr hlk (by unfold pf_mul; rw [if_neg hc, if_neg hd]) dX0_times_32
    · skip
      refine lv_iconst (v := nI 0) hx hb dX0_times_8 (by decide) ?_
      exact pa_iretR hx hb hr hlk (by rw [hd]; unfold pf_mul; rw [if_neg hc]; rfl) dX0_times_9
set_option maxHeartbeats 4000000 in
theorem m_inverse (l : Launch) {D : va_G} {a : Nat → Nat} {cI cZ : ClassId} {da th : Nat → Nat} {ck : Nat → Int32} {rc : Nat} {re rt : Nat → Nat} {ms : Nat} {mb ur eq : Nat → Nat} {x : Nat} (hx1 : x < 256) : Met l yX0_inverse (ws_ yX0_inverse cX0_inverse 2 (some .int)) (pa_rm 0 0) (PcX D clA [(cI, .int), (cZ, .boolean)] [.ref (a 0), .int (nI x)] (WX a cI cZ pf_P pf_E da th ck rc re rt ms mb ur eq)) (QcRead (nI (pf_inv x))) 0 0 (fun _ => False) := by
  refine pa_enter (by decide) (Nat.le_of_ble_eq_true rfl) (fun p e s m below meth c ls hx hb hr hlk hml hown hin hts hP hK hl => ?_)
  have hown : s.vm.findClass RX0 = some m.cls := hown
  have hl : lv_has ls 2 [(0, .ref (a 0)), (1, .int (nI x))] := hl
  refine lv_aload_n hx hb dX0_inverse_0 rfl (lv_at hl 0 rfl) ?_
  refine x_get hx hb hts hown hK hP rfl 0 (by decide) q33 rfl rfl dX0_inverse_1 ?_
  refine lv_sipush (v := nI 255) hx hb dX0_inverse_4 (by decide) ?_
  refine lv_aload_n hx hb dX0_inverse_7 rfl (lv_at hl 0 rfl) ?_
  refine x_get hx hb hts hown hK hP rfl 1 (by decide) q34 rfl rfl dX0_inverse_8 ?_
  refine lv_iload_n hx hb dX0_inverse_11 rfl (lv_at hl 1 rfl) ?_
  refine ra_ld hx hb hK hP 2 0 rfl rfl hx1 (by decide) dX0_inverse_12 ?_
  refine na_sub hx hb dX0_inverse_13 (by have := pf_E_lt x; omega) ?_
  refine lv_sipush (v := nI 255) hx hb dX0_inverse_14 (by decide) ?_
  refine na_rem hx hb dX0_inverse_17 (by omega) (by decide) (by decide) ?_
  refine ra_ld hx hb hK hP 1 0 rfl rfl (by have := Nat.mod_lt (255 - pf_E x) (show 0 < 255 by decide); omega) (by decide) dX0_inverse_18 ?_
  exact pa_iretR hx hb hr hlk rfl dX0_inverse_19
set_option maxHeartbeats 4000000 in
theorem m_factor (l : Launch) {D : va_G} {a : Nat → Nat} {cI cZ : ClassId} {da th : Nat → Nat} {ck : Nat → Int32} {rc : Nat} {re rt : Nat → Nat} {ms : Nat} {mb ur eq : Nat → Nat} {r b : Nat} (hr1 : r < 4) (hb1 : b < 6) : Met l yX0_factor (ws_ yX0_factor cX0_factor 3 (some .int)) (pa_rm 1 21) (PcX D clA [(cI, .int), (cZ, .boolean)] [.ref (a 0), .int (nI r), .int (nI b)] (WX a cI cZ pf_P pf_E da th ck rc re rt ms mb ur eq)) (QcRead (nI (pf_fac r b))) 0 0 (fun _ => False) := by
  refine pa_enter (by decide) (Nat.le_of_ble_eq_true rfl) (fun p e s m below meth c ls hx hb hr hlk hml hown hin hts hP hK hl => ?_)
  have hown : s.vm.findClass RX0 = some m.cls := hown
  have hl : lv_has ls 3 [(0, .ref (a 0)), (1, .int (nI r)), (2, .int (nI b))] := hl
  refine lv_aload_n hx hb dX0_factor_0 rfl (lv_at hl 0 rfl) ?_
  refine lv_bipush (v := nI 8) hx hb dX0_factor_1 (by decide) ?_
  refine lv_iload_n hx hb dX0_factor_3 rfl (lv_at hl 1 rfl) ?_
  refine na_add hx hb dX0_factor_4 ?_
  refine lv_iload_n hx hb dX0_factor_5 rfl (lv_at hl 2 rfl) ?_
  refine na_xor hx hb dX0_factor_6 ?_
  refine pa_callR (ci := 0) (n := 1) ⟨hx, hb, hml, hown, hts⟩ (m_inverse l (pf_mark_lt hr1 hb1)) hK hP rfl rfl (lw_V q90 q92 qs3 q18 q93) rfl rfl (by decide +kernel) ⟨by decide, by decide⟩ rfl hl.1 rfl (Nat.le_of_ble_eq_true rfl) dX0_factor_7 ⟨Nat.le_refl _, Nat.le_refl _⟩ ?_
  exact pa_iretR hx hb hr hlk rfl dX0_factor_10
/-- badBlock -/
theorem m_badBlock (l : Launch) {x r : Int32} (h : (r = 1 ∧ (x < 0 ∨ nI 6 ≤ x)) ∨ (r = 0 ∧ ∃ j, j < 6 ∧ x = nI j)) : Met l yX0_badBlock (ws_ yX0_badBlock cX0_badBlock 1 (some .boolean)) (pa_rm 0 0) (fun v _ => v = [Value.int x].toArray) (QcRead r) 0 0 (fun _ => False) := by
  refine Met.ofW (cc := cX0_badBlock) (maxL := 1) (ret := some .boolean) (by decide) rfl ?_
  intro p e s m args below meth c s₁ B hml hv
  subst hv
  have hx := B.exec
  have hb := B.bytes
  have hr := B.returns
  have hlk := B.notSynchronized
  have hl := lv_entry [Value.int x] (n := 1) (Nat.le_of_ble_eq_true rfl)
  rw [lg_entry_eq]
  generalize (lg_sl [Value.int x] ++ List.replicate (1 - (lg_sl [Value.int x]).length) Slot.unset).toArray = ls at hl ⊢
  have hl : lv_has ls 1 [(0, .int x)] := hl
  rcases h with ⟨rfl, h | h⟩ | ⟨rfl, j, hj, rfl⟩
  · skip
    refine lv_iload_n hx hb dX0_badBlock_0 rfl (lv_at hl 0 rfl) ?_
    refine lv_if_lt (tgt := 10) hx hb dX0_badBlock_1 (by decide) (fun _ => ?_) (fun q => absurd h q)
    refine lv_iconst (v := nI 1) hx hb dX0_badBlock_10 (by decide) ?_
    refine lv_goto (tgt := 15) hx hb dX0_badBlock_11 (by decide) ?_
    exact pa_zretR hx hb hr hlk rfl rfl dX0_badBlock_15
  · skip
    refine lv_iload_n hx hb dX0_badBlock_0 rfl (lv_at hl 0 rfl) ?_
    refine lv_if_lt (tgt := 10) hx hb dX0_badBlock_1 (by decide) (fun q => absurd (Int32.lt_of_le_of_lt h q) (by decide)) (fun _ => ?_)
    refine lv_iload_n hx hb dX0_badBlock_4 rfl (lv_at hl 0 rfl) ?_
    refine lv_bipush (v := nI 6) hx hb dX0_badBlock_5 (by decide) ?_
    refine lv_icmp_lt (tgt := 14) hx hb dX0_badBlock_7 (by decide) (fun q => absurd (Int32.lt_of_le_of_lt h q) Int32.lt_irrefl) (fun _ => ?_)
    refine lv_iconst (v := nI 1) hx hb dX0_badBlock_10 (by decide) ?_
    refine lv_goto (tgt := 15) hx hb dX0_badBlock_11 (by decide) ?_
    exact pa_zretR hx hb hr hlk rfl rfl dX0_badBlock_15
  · skip
    refine lv_iload_n hx hb dX0_badBlock_0 rfl (lv_at hl 0 rfl) ?_
    refine na_if_lt (tgt := 10) hx hb dX0_badBlock_1 (by decide) (by omega) ?_
    refine lv_iload_n hx hb dX0_badBlock_4 rfl (lv_at hl 0 rfl) ?_
    refine lv_bipush (v := nI 6) hx hb dX0_badBlock_5 (by decide) ?_
    refine na_icmp_lt (tgt := 14) hx hb dX0_badBlock_7 (by decide) (by omega) (by omega) (fun hc => ?_) (fun hc9 => absurd hc9 (by omega))
    refine lv_iconst (v := nI 0) hx hb dX0_badBlock_14 (by decide) ?_
    exact pa_zretR hx hb hr hlk rfl rfl dX0_badBlock_15
/-- badPlace -/
theorem m_badPlace (l : Launch) {x r : Int32} (h : (r = 1 ∧ (x < 0 ∨ nI 8 ≤ x)) ∨ (r = 0 ∧ ∃ j, j < 8 ∧ x = nI j)) : Met l yX0_badPlace (ws_ yX0_badPlace cX0_badPlace 1 (some .boolean)) (pa_rm 0 0) (fun v _ => v = [Value.int x].toArray) (QcRead r) 0 0 (fun _ => False) := by
  refine Met.ofW (cc := cX0_badPlace) (maxL := 1) (ret := some .boolean) (by decide) rfl ?_
  intro p e s m args below meth c s₁ B hml hv
  subst hv
  have hx := B.exec
  have hb := B.bytes
  have hr := B.returns
  have hlk := B.notSynchronized
  have hl := lv_entry [Value.int x] (n := 1) (Nat.le_of_ble_eq_true rfl)
  rw [lg_entry_eq]
  generalize (lg_sl [Value.int x] ++ List.replicate (1 - (lg_sl [Value.int x]).length) Slot.unset).toArray = ls at hl ⊢
  have hl : lv_has ls 1 [(0, .int x)] := hl
  rcases h with ⟨rfl, h | h⟩ | ⟨rfl, j, hj, rfl⟩
  · skip
    refine lv_iload_n hx hb dX0_badPlace_0 rfl (lv_at hl 0 rfl) ?_
    refine lv_if_lt (tgt := 10) hx hb dX0_badPlace_1 (by decide) (fun _ => ?_) (fun q => absurd h q)
    refine lv_iconst (v := nI 1) hx hb dX0_badPlace_10 (by decide) ?_
    refine lv_goto (tgt := 15) hx hb dX0_badPlace_11 (by decide) ?_
    exact pa_zretR hx hb hr hlk rfl rfl dX0_badPlace_15
  · skip
    refine lv_iload_n hx hb dX0_badPlace_0 rfl (lv_at hl 0 rfl) ?_
    refine lv_if_lt (tgt := 10) hx hb dX0_badPlace_1 (by decide) (fun q => absurd (Int32.lt_of_le_of_lt h q) (by decide)) (fun _ => ?_)
    refine lv_iload_n hx hb dX0_badPlace_4 rfl (lv_at hl 0 rfl) ?_
    refine lv_bipush (v := nI 8) hx hb dX0_badPlace_5 (by decide) ?_
    refine lv_icmp_lt (tgt := 14) hx hb dX0_badPlace_7 (by decide) (fun q => absurd (Int32.lt_of_le_of_lt h q) Int32.lt_irrefl) (fun _ => ?_)
    refine lv_iconst (v := nI 1) hx hb dX0_badPlace_10 (by decide) ?_
    refine lv_goto (tgt := 15) hx hb dX0_badPlace_11 (by decide) ?_
    exact pa_zretR hx hb hr hlk rfl rfl dX0_badPlace_15
  · skip
    refine lv_iload_n hx hb dX0_badPlace_0 rfl (lv_at hl 0 rfl) ?_
    refine na_if_lt (tgt := 10) hx hb dX0_badPlace_1 (by decide) (by omega) ?_
    refine lv_iload_n hx hb dX0_badPlace_4 rfl (lv_at hl 0 rfl) ?_
    refine lv_bipush (v := nI 8) hx hb dX0_badPlace_5 (by decide) ?_
    refine na_icmp_lt (tgt := 14) hx hb dX0_badPlace_7 (by decide) (by omega) (by omega) (fun hc => ?_) (fun hc9 => absurd hc9 (by omega))
    refine lv_iconst (v := nI 0) hx hb dX0_badPlace_14 (by decide) ?_
    exact pa_zretR hx hb hr hlk rfl rfl dX0_badPlace_15
set_option maxHeartbeats 4000000 in
theorem m_checkOf (l : Launch) {D : va_G} {a : Nat → Nat} {cI cZ : ClassId} {da th : Nat → Nat} {ck : Nat → Int32} {rc : Nat} {re rt : Nat → Nat} {ms : Nat} {mb ur eq : Nat → Nat} {b : Nat} (hb1 : b < 6) : Met l yX0_checkOf (ws_ yX0_checkOf cX0_checkOf 4 (some .int)) (pa_rm 0 0) (PcX D clA [(cI, .int), (cZ, .boolean)] [.ref (a 0), .int (nI b)] (WX a cI cZ pf_P pf_E da th ck rc re rt ms mb ur eq)) (QcRead (pf_sum da b 8)) 0 0 (fun _ => False) := by
  refine pa_enter (by decide) (Nat.le_of_ble_eq_true rfl) (fun p e s m below meth c ls hx hb hr hlk hml hown hin hts hP hK hl => ?_)
  have hown : s.vm.findClass RX0 = some m.cls := hown
  have hl : lv_has ls 4 [(0, .ref (a 0)), (1, .int (nI b))] := hl
  refine lv_bipush (v := nI 17) hx hb dX0_checkOf_0 (by decide) ?_
  refine lv_istore_n (lv' := [(2, .int (nI 17)), (0, .ref (a 0)), (1, .int (nI b))]) hx hb dX0_checkOf_2 rfl hl (by decide) rfl (fun ls hl => ?_)
  refine lv_iconst (v := nI 0) hx hb dX0_checkOf_3 (by decide) ?_
  refine lv_istore_n (lv' := [(3, .int (nI 0)), (2, .int (nI 17)), (0, .ref (a 0)), (1, .int (nI b))]) hx hb dX0_checkOf_4 rfl hl (by decide) rfl (fun ls hl => ?_)
  refine pa_lpr (nL := 4) (fun i (x : Int32) => x = pf_sum da b i) (fun i (x : Int32) => [(0, .ref (a 0)), (1, .int (nI b)), (2, .int x), (3, .int (nI i))]) 0 8 (by omega) (17) rfl (lv_sub hl [2, 3, 1, 0] rfl) (fun i t ls hge hhi hI hl ih => ?_) (fun t ls hI hl => ?_)
  · skip
    have hI : t = pf_sum da b i := hI
    have hl : lv_has ls 4 [(0, .ref (a 0)), (1, .int (nI b)), (2, .int t), (3, .int (nI i))] := hl
    refine lv_iload_n hx hb dX0_checkOf_5 rfl (lv_at hl 3 rfl) ?_
    refine lv_bipush (v := nI 8) hx hb dX0_checkOf_6 (by decide) ?_
    refine na_icmp_ge (tgt := 34) hx hb dX0_checkOf_8 (by decide) (by omega) (by omega) (fun hc9 => absurd hc9 (by omega)) (fun hc => ?_)
    refine lv_iload_n hx hb dX0_checkOf_11 rfl (lv_at hl 2 rfl) ?_
    refine lv_ldc hx hb hown (hts _ q32) dX0_checkOf_12 ?_
    refine lv_imul hx hb dX0_checkOf_14 ?_
    refine lv_aload_n hx hb dX0_checkOf_15 rfl (lv_at hl 0 rfl) ?_
    refine x_get hx hb hts hown hK hP rfl 2 (by decide) q35 rfl rfl dX0_checkOf_16 ?_
    refine lv_iload_n hx hb dX0_checkOf_19 rfl (lv_at hl 1 rfl) ?_
    refine lv_bipush (v := nI 8) hx hb dX0_checkOf_20 (by decide) ?_
    refine na_mul hx hb dX0_checkOf_22 ?_
    refine lv_iload_n hx hb dX0_checkOf_23 rfl (lv_at hl 3 rfl) ?_
    refine na_add hx hb dX0_checkOf_24 ?_
    refine ra_ld hx hb hK hP 3 0 rfl rfl (by omega) (by decide) dX0_checkOf_25 ?_
    refine lv_iadd hx hb dX0_checkOf_26 ?_
    refine lv_istore_n (lv' := [(2, .int ((t * 16777619) + (nI (da ((b * 8) + i))))), (0, .ref (a 0)), (1, .int (nI b)), (3, .int (nI i))]) hx hb dX0_checkOf_27 rfl hl (by decide) rfl (fun ls hl => ?_)
    refine na_iinc (lv' := [(3, .int (nI (i + 1))), (2, .int ((t * 16777619) + (nI (da ((b * 8) + i))))), (0, .ref (a 0)), (1, .int (nI b))]) hx hb dX0_checkOf_28 hl (k := 3) rfl (by decide) rfl (fun ls hl => ?_)
    refine lv_goto (tgt := 5) hx hb dX0_checkOf_31 (by decide) ?_
    exact ih ((t * 16777619) + (nI (da ((b * 8) + i)))) _ (by rw [hI]; rfl) (lv_sub hl [2, 3, 1, 0] rfl)
  · skip
    have hI : t = pf_sum da b 8 := hI
    have hl : lv_has ls 4 [(0, .ref (a 0)), (1, .int (nI b)), (2, .int t), (3, .int (nI 8))] := hl
    refine lv_iload_n hx hb dX0_checkOf_5 rfl (lv_at hl 3 rfl) ?_
    refine lv_bipush (v := nI 8) hx hb dX0_checkOf_6 (by decide) ?_
    refine na_icmp_ge (tgt := 34) hx hb dX0_checkOf_8 (by decide) (by omega) (by omega) (fun hc => ?_) (fun hc9 => absurd hc9 (by omega))
    refine lv_iload_n hx hb dX0_checkOf_34 rfl (lv_at hl 2 rfl) ?_
    exact pa_iretR hx hb hr hlk hI dX0_checkOf_35
set_option maxHeartbeats 4000000 in
theorem m_stateOf (l : Launch) {D : va_G} {a : Nat → Nat} {cI cZ : ClassId} {da th : Nat → Nat} {ck : Nat → Int32} {rc : Nat} {re rt : Nat → Nat} {ms : Nat} {mb ur eq : Nat → Nat} {b : Nat} (hth : ∀ j, th j < 2) (hb1 : b < 6) : Met l yX0_stateOf (ws_ yX0_stateOf cX0_stateOf 3 (some .int)) (pa_rm 1 23) (PcX D clA [(cI, .int), (cZ, .boolean)] [.ref (a 0), .int (nI b)] (WX a cI cZ pf_P pf_E da th ck rc re rt ms mb ur eq)) (QcRead (nI (pf_st da th ck b))) 0 0 (fun _ => False) := by
  refine pa_enter (by decide) (Nat.le_of_ble_eq_true rfl) (fun p e s m below meth c ls hx hb hr hlk hml hown hin hts hP hK hl => ?_)
  have hown : s.vm.findClass RX0 = some m.cls := hown
  have hl : lv_has ls 3 [(0, .ref (a 0)), (1, .int (nI b))] := hl
  have hth1 := hth b
  refine lv_aload_n hx hb dX0_stateOf_0 rfl (lv_at hl 0 rfl) ?_
  refine x_get hx hb hts hown hK hP rfl 3 (by decide) q36 rfl rfl dX0_stateOf_1 ?_
  refine lv_iload_n hx hb dX0_stateOf_4 rfl (lv_at hl 1 rfl) ?_
  refine rz_ld hx hb hK hP 4 1 rfl rfl (by omega) (by decide) dX0_stateOf_5 ?_
  refine na_if_ne (tgt := 11) hx hb dX0_stateOf_6 (by decide) (by omega) (fun hc => ?_) (fun hc => ?_)
  · skip
    refine lv_aload_n hx hb dX0_stateOf_11 rfl (lv_at hl 0 rfl) ?_
    refine lv_iload_n hx hb dX0_stateOf_12 rfl (lv_at hl 1 rfl) ?_
    refine pa_callR (ci := 0) (n := 1) ⟨hx, hb, hml, hown, hts⟩ (m_checkOf l (by omega)) hK hP rfl rfl (lw_V q28 q30 qs0 q18 q31) rfl rfl (by decide +kernel) ⟨by decide, by decide⟩ rfl hl.1 rfl (Nat.le_of_ble_eq_true rfl) dX0_stateOf_13 ⟨Nat.le_refl _, Nat.le_refl _⟩ ?_
    refine lv_istore_n (lv' := [(2, .int (pf_sum da b 8)), (0, .ref (a 0)), (1, .int (nI b))]) hx hb dX0_stateOf_16 rfl hl (by decide) rfl (fun ls hl => ?_)
    refine lv_iload_n hx hb dX0_stateOf_17 rfl (lv_at hl 0 rfl) ?_
    refine lv_aload_n hx hb dX0_stateOf_18 rfl (lv_at hl 1 rfl) ?_
    refine x_get hx hb hts hown hK hP rfl 4 (by decide) q37 rfl rfl dX0_stateOf_19 ?_
    refine lv_iload_n hx hb dX0_stateOf_22 rfl (lv_at hl 2 rfl) ?_
    refine rk_ld hx hb hK hP 5 0 rfl rfl (by omega) (by decide) dX0_stateOf_23 ?_
    refine lv_icmp_ne (tgt := 31) hx hb dX0_stateOf_24 (by decide) (fun hd => ?_) (fun hd => ?_)
    · skip
      refine lv_iconst (v := nI 2) hx hb dX0_stateOf_31 (by decide) ?_
      exact pa_iretR hx hb hr hlk (by unfold pf_st; rw [if_neg hc, if_neg hd]) dX0_stateOf_32
    · skip
      refine lv_iconst (v := nI 0) hx hb dX0_stateOf_27 (by decide) ?_
      refine lv_goto (tgt := 32) hx hb dX0_stateOf_28 (by decide) ?_
      exact pa_iretR hx hb hr hlk (by unfold pf_st; rw [if_neg hc, if_pos hd]) dX0_stateOf_32
  · skip
    refine lv_iconst (v := nI 1) hx hb dX0_stateOf_9 (by decide) ?_
    exact pa_iretR hx hb hr hlk (by unfold pf_st; rw [if_pos hc]) dX0_stateOf_10
set_option maxHeartbeats 4000000 in
theorem m_badBlocks (l : Launch) {D : va_G} {a : Nat → Nat} {cI cZ : ClassId} {da th : Nat → Nat} {ck : Nat → Int32} {rc : Nat} {re rt : Nat → Nat} {ms : Nat} {mb ur eq : Nat → Nat} (hth : ∀ j, th j < 2) : Met l yX0_badBlocks (ws_ yX0_badBlocks cX0_badBlocks 4 (some .int)) (pa_rm 2 45) (PcX D clA [(cI, .int), (cZ, .boolean)] [.ref (a 0)] (WX a cI cZ pf_P pf_E da th ck rc re rt ms mb ur eq)) (QcRead (nI (pf_bad da th ck 6))) 0 0 (fun _ => False) := by
  refine pa_enter (by decide) (Nat.le_of_ble_eq_true rfl) (fun p e s m below meth c ls hx hb hr hlk hml hown hin hts hP hK hl => ?_)
  have hown : s.vm.findClass RX0 = some m.cls := hown
  have hl : lv_has ls 4 [(0, .ref (a 0))] := hl
  refine lv_iconst (v := nI 0) hx hb dX0_badBlocks_0 (by decide) ?_
  refine lv_istore_n (lv' := [(1, .int (nI 0)), (0, .ref (a 0))]) hx hb dX0_badBlocks_1 rfl hl (by decide) rfl (fun ls hl => ?_)
  refine lv_iconst (v := nI 0) hx hb dX0_badBlocks_2 (by decide) ?_
  refine lv_istore_n (lv' := [(2, .int (nI 0)), (1, .int (nI 0)), (0, .ref (a 0))]) hx hb dX0_badBlocks_3 rfl hl (by decide) rfl (fun ls hl => ?_)
  refine pa_lpr (nL := 4) (fun i (x : Nat) => x = pf_bad da th ck i) (fun i (x : Nat) => [(0, .ref (a 0)), (1, .int (nI x)), (2, .int (nI i))]) 0 6 (by omega) (0) rfl (lv_sub hl [2, 1, 0] rfl) (fun i t ls hge hhi hI hl ih => ?_) (fun t ls hI hl => ?_)
  · skip
    have hI : t = pf_bad da th ck i := hI
    have hl : lv_has ls 4 [(0, .ref (a 0)), (1, .int (nI t)), (2, .int (nI i))] := hl
    have hs := pf_st_lt da th ck i
    refine lv_iload_n hx hb dX0_badBlocks_4 rfl (lv_at hl 2 rfl) ?_
    refine lv_bipush (v := nI 6) hx hb dX0_badBlocks_5 (by decide) ?_
    refine na_icmp_ge (tgt := 29) hx hb dX0_badBlocks_7 (by decide) (by omega) (by omega) (fun hc9 => absurd hc9 (by omega)) (fun hc => ?_)
    refine lv_aload_n hx hb dX0_badBlocks_10 rfl (lv_at hl 0 rfl) ?_
    refine lv_iload_n hx hb dX0_badBlocks_11 rfl (lv_at hl 2 rfl) ?_
    refine pa_callR (ci := 0) (n := 1) ⟨hx, hb, hml, hown, hts⟩ (m_stateOf l hth (by omega)) hK hP rfl rfl (lw_V q82 q84 qs1 q18 q85) rfl rfl (by decide +kernel) ⟨by decide, by decide⟩ rfl hl.1 rfl (Nat.le_of_ble_eq_true rfl) dX0_badBlocks_12 ⟨Nat.le_refl _, Nat.le_refl _⟩ ?_
    refine lv_istore_n (lv' := [(3, .int (nI (pf_st da th ck i))), (0, .ref (a 0)), (1, .int (nI t)), (2, .int (nI i))]) hx hb dX0_badBlocks_15 rfl hl (by decide) rfl (fun ls hl => ?_)
    refine lv_iload_n hx hb dX0_badBlocks_16 rfl (lv_at hl 0 rfl) ?_
    refine na_if_eq (tgt := 23) hx hb dX0_badBlocks_17 (by decide) (by omega) (fun hc => ?_) (fun hc => ?_)
    · skip
      refine na_iinc (lv' := [(2, .int (nI (i + 1))), (3, .int (nI (pf_st da th ck i))), (0, .ref (a 0)), (1, .int (nI t))]) hx hb dX0_badBlocks_23 hl (k := 3) rfl (by decide) rfl (fun ls hl => ?_)
      refine lv_goto (tgt := 4) hx hb dX0_badBlocks_26 (by decide) ?_
      exact ih (t) _ (by rw [hI]; exact (if_pos hc).symm) (lv_sub hl [2, 3, 0] rfl)
    · skip
      refine na_iinc (lv' := [(1, .int (nI (t + 1))), (3, .int (nI (pf_st da th ck i))), (0, .ref (a 0)), (2, .int (nI i))]) hx hb dX0_badBlocks_20 hl (k := 2) rfl (by decide) rfl (fun ls hl => ?_)
      refine na_iinc (lv' := [(2, .int (nI (i + 1))), (1, .int (nI (t + 1))), (3, .int (nI (pf_st da th ck i))), (0, .ref (a 0))]) hx hb dX0_badBlocks_23 hl (k := 3) rfl (by decide) rfl (fun ls hl => ?_)
      refine lv_goto (tgt := 4) hx hb dX0_badBlocks_26 (by decide) ?_
      exact ih (t + 1) _ (by rw [hI]; exact (if_neg hc).symm) (lv_sub hl [3, 1, 0] rfl)
  · skip
    have hI : t = pf_bad da th ck 6 := hI
    have hl : lv_has ls 4 [(0, .ref (a 0)), (1, .int (nI t)), (2, .int (nI 6))] := hl
    refine lv_iload_n hx hb dX0_badBlocks_4 rfl (lv_at hl 2 rfl) ?_
    refine lv_bipush (v := nI 6) hx hb dX0_badBlocks_5 (by decide) ?_
    refine na_icmp_ge (tgt := 29) hx hb dX0_badBlocks_7 (by decide) (by omega) (by omega) (fun hc => ?_) (fun hc9 => absurd hc9 (by omega))
    refine lv_iload_n hx hb dX0_badBlocks_29 rfl (lv_at hl 1 rfl) ?_
    exact pa_iretR hx hb hr hlk (by rw [hI]) dX0_badBlocks_30
set_option maxHeartbeats 4000000 in
theorem m_goodRecoveries (l : Launch) {D : va_G} {a : Nat → Nat} {cI cZ : ClassId} {da th : Nat → Nat} {ck : Nat → Int32} {rc : Nat} {re rt : Nat → Nat} {ms : Nat} {mb ur eq : Nat → Nat} (hrt : ∀ j, rt j < 2) (hrc : rc ≤ 4) : Met l yX0_goodRecoveries (ws_ yX0_goodRecoveries cX0_goodRecoveries 3 (some .int)) (pa_rm 0 0) (PcX D clA [(cI, .int), (cZ, .boolean)] [.ref (a 0)] (WX a cI cZ pf_P pf_E da th ck rc re rt ms mb ur eq)) (QcRead (nI (pf_good rt rc))) 0 0 (fun _ => False) := by
  refine pa_enter (by decide) (Nat.le_of_ble_eq_true rfl) (fun p e s m below meth c ls hx hb hr hlk hml hown hin hts hP hK hl => ?_)
  have hown : s.vm.findClass RX0 = some m.cls := hown
  have hl : lv_has ls 3 [(0, .ref (a 0))] := hl
  refine lv_iconst (v := nI 0) hx hb dX0_goodRecoveries_0 (by decide) ?_
  refine lv_istore_n (lv' := [(1, .int (nI 0)), (0, .ref (a 0))]) hx hb dX0_goodRecoveries_1 rfl hl (by decide) rfl (fun ls hl => ?_)
  refine lv_iconst (v := nI 0) hx hb dX0_goodRecoveries_2 (by decide) ?_
  refine lv_istore_n (lv' := [(2, .int (nI 0)), (1, .int (nI 0)), (0, .ref (a 0))]) hx hb dX0_goodRecoveries_3 rfl hl (by decide) rfl (fun ls hl => ?_)
  refine pa_lpr (nL := 3) (fun i (x : Nat) => x = pf_good rt i) (fun i (x : Nat) => [(0, .ref (a 0)), (1, .int (nI x)), (2, .int (nI i))]) 0 rc (by omega) (0) rfl (lv_sub hl [2, 1, 0] rfl) (fun i t ls hge hhi hI hl ih => ?_) (fun t ls hI hl => ?_)
  · skip
    have hI : t = pf_good rt i := hI
    have hl : lv_has ls 3 [(0, .ref (a 0)), (1, .int (nI t)), (2, .int (nI i))] := hl
    have hs := hrt i
    refine lv_iload_n hx hb dX0_goodRecoveries_4 rfl (lv_at hl 2 rfl) ?_
    refine lv_aload_n hx hb dX0_goodRecoveries_5 rfl (lv_at hl 0 rfl) ?_
    refine x_get hx hb hts hown hK hP rfl 5 (by decide) q38 rfl rfl dX0_goodRecoveries_6 ?_
    refine na_icmp_ge (tgt := 30) hx hb dX0_goodRecoveries_9 (by decide) (by omega) (by omega) (fun hc9 => absurd hc9 (by omega)) (fun hc => ?_)
    refine lv_aload_n hx hb dX0_goodRecoveries_12 rfl (lv_at hl 0 rfl) ?_
    refine x_get hx hb hts hown hK hP rfl 7 (by decide) q40 rfl rfl dX0_goodRecoveries_13 ?_
    refine lv_iload_n hx hb dX0_goodRecoveries_16 rfl (lv_at hl 2 rfl) ?_
    refine rz_ld hx hb hK hP 7 1 rfl rfl (by omega) (by decide) dX0_goodRecoveries_17 ?_
    refine na_if_eq (tgt := 24) hx hb dX0_goodRecoveries_18 (by decide) (by omega) (fun hc => ?_) (fun hc => ?_)
    · skip
      refine na_iinc (lv' := [(2, .int (nI (i + 1))), (0, .ref (a 0)), (1, .int (nI t))]) hx hb dX0_goodRecoveries_24 hl (k := 2) rfl (by decide) rfl (fun ls hl => ?_)
      refine lv_goto (tgt := 4) hx hb dX0_goodRecoveries_27 (by decide) ?_
      exact ih (t) _ (by rw [hI]; exact (if_pos hc).symm) (lv_sub hl [1, 2, 0] rfl)
    · skip
      refine na_iinc (lv' := [(1, .int (nI (t + 1))), (0, .ref (a 0)), (2, .int (nI i))]) hx hb dX0_goodRecoveries_21 hl (k := 1) rfl (by decide) rfl (fun ls hl => ?_)
      refine na_iinc (lv' := [(2, .int (nI (i + 1))), (1, .int (nI (t + 1))), (0, .ref (a 0))]) hx hb dX0_goodRecoveries_24 hl (k := 2) rfl (by decide) rfl (fun ls hl => ?_)
      refine lv_goto (tgt := 4) hx hb dX0_goodRecoveries_27 (by decide) ?_
      exact ih (t + 1) _ (by rw [hI]; exact (if_neg hc).symm) (lv_sub hl [2, 1, 0] rfl)
  · skip
    have hI : t = pf_good rt rc := hI
    have hl : lv_has ls 3 [(0, .ref (a 0)), (1, .int (nI t)), (2, .int (nI rc))] := hl
    refine lv_iload_n hx hb dX0_goodRecoveries_4 rfl (lv_at hl 2 rfl) ?_
    refine lv_aload_n hx hb dX0_goodRecoveries_5 rfl (lv_at hl 0 rfl) ?_
    refine x_get hx hb hts hown hK hP rfl 5 (by decide) q38 rfl rfl dX0_goodRecoveries_6 ?_
    refine na_icmp_ge (tgt := 30) hx hb dX0_goodRecoveries_9 (by decide) (by omega) (by omega) (fun hc => ?_) (fun hc9 => absurd hc9 (by omega))
    refine lv_iload_n hx hb dX0_goodRecoveries_30 rfl (lv_at hl 1 rfl) ?_
    exact pa_iretR hx hb hr hlk (by rw [hI]) dX0_goodRecoveries_31
set_option maxHeartbeats 4000000 in
theorem m_spare (l : Launch) {D : va_G} {a : Nat → Nat} {cI cZ : ClassId} {da th : Nat → Nat} {ck : Nat → Int32} {rc : Nat} {re rt : Nat → Nat} {ms : Nat} {mb ur eq : Nat → Nat} (hrt : ∀ j, rt j < 2) (hrc : rc ≤ 4) : Met l yX0_spare (ws_ yX0_spare cX0_spare 1 (some .int)) (pa_rm 1 22) (PcX D clA [(cI, .int), (cZ, .boolean)] [.ref (a 0)] (WX a cI cZ pf_P pf_E da th ck rc re rt ms mb ur eq)) (QcRead (nI (pf_good rt rc))) 0 0 (fun _ => False) := by
  refine pa_enter (by decide) (Nat.le_of_ble_eq_true rfl) (fun p e s m below meth c ls hx hb hr hlk hml hown hin hts hP hK hl => ?_)
  have hown : s.vm.findClass RX0 = some m.cls := hown
  have hl : lv_has ls 1 [(0, .ref (a 0))] := hl
  refine lv_aload_n hx hb dX0_spare_0 rfl (lv_at hl 0 rfl) ?_
  refine pa_callR (ci := 0) (n := 0) ⟨hx, hb, hml, hown, hts⟩ (m_goodRecoveries l hrt hrc) hK hP rfl rfl (lw_V q130 q132 qs8 q18 q133) rfl rfl (by decide +kernel) ⟨by decide, by decide⟩ rfl hl.1 rfl (Nat.le_of_ble_eq_true rfl) dX0_spare_1 ⟨Nat.le_refl _, Nat.le_refl _⟩ ?_
  exact pa_iretR hx hb hr hlk rfl dX0_spare_4
theorem pf_im_0 {mb : Nat → Nat} {b : Nat} : ∀ k, (∀ j, j < k → mb j ≠ b) → pf_im mb b k = 0
  | 0, _ => rfl
  | k + 1, h => by
    unfold pf_im
    rw [if_neg (h k (by omega))]
    exact pf_im_0 k (fun j hj => h j (by omega))
theorem pf_im_1 {mb : Nat → Nat} {b j : Nat} (hj : mb j = b) : ∀ k, j < k → pf_im mb b k = 1
  | 0, h => absurd h (by omega)
  | k + 1, h => by
    unfold pf_im
    split
    · rfl
    · rename_i h2
      exact pf_im_1 hj k (by
        rcases Nat.lt_or_ge j k with z | z
        · exact z
        · have : j = k := by omega
          subst this
          exact absurd hj h2)
theorem pf_im_lt (mb : Nat → Nat) (b : Nat) : ∀ k, pf_im mb b k < 2
  | 0 => by show 0 < 2; decide
  | k + 1 => by
    unfold pf_im
    split
    · decide
    · exact pf_im_lt mb b k
set_option maxHeartbeats 4000000 in
theorem m_isMissing (l : Launch) {D : va_G} {a : Nat → Nat} {cI cZ : ClassId} {da th : Nat → Nat} {ck : Nat → Int32} {rc : Nat} {re rt : Nat → Nat} {ms : Nat} {mb ur eq : Nat → Nat} {b : Nat} (hms : ms ≤ 6) (hmb : ∀ j, mb j < 6) (hb1 : b < 6) : Met l yX0_isMissing (ws_ yX0_isMissing cX0_isMissing 3 (some .boolean)) (pa_rm 0 0) (PcX D clA [(cI, .int), (cZ, .boolean)] [.ref (a 0), .int (nI b)] (WX a cI cZ pf_P pf_E da th ck rc re rt ms mb ur eq)) (QcRead (nI (pf_im mb b ms))) 0 0 (fun _ => False) := by
  refine pa_enter (by decide) (Nat.le_of_ble_eq_true rfl) (fun p e s m below meth c ls hx hb hr hlk hml hown hin hts hP hK hl => ?_)
  have hown : s.vm.findClass RX0 = some m.cls := hown
  have hl : lv_has ls 3 [(0, .ref (a 0)), (1, .int (nI b))] := hl
  refine lv_iconst (v := nI 0) hx hb dX0_isMissing_0 (by decide) ?_
  refine lv_istore_n (lv' := [(2, .int (nI 0)), (0, .ref (a 0)), (1, .int (nI b))]) hx hb dX0_isMissing_1 rfl hl (by decide) rfl (fun ls hl => ?_)
  refine pa_lpr (nL := 3) (fun i (x : Unit) => ∀ j, j < i → mb j ≠ b) (fun i (x : Unit) => [(0, .ref (a 0)), (1, .int (nI b)), (2, .int (nI i))]) 0 ms (by omega) () (fun j hj => absurd hj (by omega)) (lv_sub hl [1, 2, 0] rfl) (fun i _ ls hge hhi hI hl ih => ?_) (fun _ ls hI hl => ?_)
  · skip
    have hI : ∀ j, j < i → mb j ≠ b := hI
    have hl : lv_has ls 3 [(0, .ref (a 0)), (1, .int (nI b)), (2, .int (nI i))] := hl
    have hs := hmb i
    refine lv_iload_n hx hb dX0_isMissing_2 rfl (lv_at hl 2 rfl) ?_
    refine lv_aload_n hx hb dX0_isMissing_3 rfl (lv_at hl 0 rfl) ?_
    refine x_get hx hb hts hown hK hP rfl 8 (by decide) q41 rfl rfl dX0_isMissing_4 ?_
    refine na_icmp_ge (tgt := 28) hx hb dX0_isMissing_7 (by decide) (by omega) (by omega) (fun hc9 => absurd hc9 (by omega)) (fun hc => ?_)
    refine lv_aload_n hx hb dX0_isMissing_10 rfl (lv_at hl 0 rfl) ?_
    refine x_get hx hb hts hown hK hP rfl 9 (by decide) q42 rfl rfl dX0_isMissing_11 ?_
    refine lv_iload_n hx hb dX0_isMissing_14 rfl (lv_at hl 2 rfl) ?_
    refine ra_ld hx hb hK hP 8 0 rfl rfl (by omega) (by decide) dX0_isMissing_15 ?_
    refine lv_iload_n hx hb dX0_isMissing_16 rfl (lv_at hl 1 rfl) ?_
    refine na_icmp_ne (tgt := 22) hx hb dX0_isMissing_17 (by decide) (by omega) (by omega) (fun hc => ?_) (fun hc => ?_)
    · skip
      refine na_iinc (lv' := [(2, .int (nI (i + 1))), (0, .ref (a 0)), (1, .int (nI b))]) hx hb dX0_isMissing_22 hl (k := 2) rfl (by decide) rfl (fun ls hl => ?_)
      refine lv_goto (tgt := 2) hx hb dX0_isMissing_25 (by decide) ?_
      exact ih () _ (fun j hj => by
          rcases Nat.lt_or_ge j i with z | z
          · exact hI j z
          · have : j = i := by omega
            subst this
            exact hc) (lv_sub hl [1, 2, 0] rfl)
    · skip
      refine lv_iconst (v := nI 1) hx hb dX0_isMissing_20 (by decide) ?_
      exact pa_zretR hx hb hr hlk (by rw [pf_im_1 hc ms hhi]) rfl dX0_isMissing_21
  · skip
    have hI : ∀ j, j < ms → mb j ≠ b := hI
    have hl : lv_has ls 3 [(0, .ref (a 0)), (1, .int (nI b)), (2, .int (nI ms))] := hl
    refine lv_iload_n hx hb dX0_isMissing_2 rfl (lv_at hl 2 rfl) ?_
    refine lv_aload_n hx hb dX0_isMissing_3 rfl (lv_at hl 0 rfl) ?_
    refine x_get hx hb hts hown hK hP rfl 8 (by decide) q41 rfl rfl dX0_isMissing_4 ?_
    refine na_icmp_ge (tgt := 28) hx hb dX0_isMissing_7 (by decide) (by omega) (by omega) (fun hc => ?_) (fun hc9 => absurd hc9 (by omega))
    refine lv_iconst (v := nI 0) hx hb dX0_isMissing_28 (by decide) ?_
    exact pa_zretR hx hb hr hlk (by rw [pf_im_0 ms hI]) rfl dX0_isMissing_29
set_option maxHeartbeats 4000000 in
theorem m_restOf (l : Launch) {D : va_G} {a : Nat → Nat} {cI cZ : ClassId} {da th : Nat → Nat} {ck : Nat → Int32} {rc : Nat} {re rt : Nat → Nat} {ms : Nat} {mb ur eq : Nat → Nat} {r i : Nat} (hda : ∀ j, da j < 256) (hms : ms ≤ 6) (hmb : ∀ j, mb j < 6) (hr1 : r < 4) (hi1 : i < 8) : Met l yX0_restOf (ws_ yX0_restOf cX0_restOf 7 (some .int)) (pa_rm 2 43) (PcX D clA [(cI, .int), (cZ, .boolean)] [.ref (a 0), .int (nI r), .int (nI i)] (WX a cI cZ pf_P pf_E da th ck rc re rt ms mb ur eq)) (QcRead (nI (pf_rst da re ms mb r i 6))) 0 0 (fun _ => False) := by
  refine pa_enter (by decide) (Nat.le_of_ble_eq_true rfl) (fun p e s m below meth c ls hx hb hr hlk hml hown hin hts hP hK hl => ?_)
  have hown : s.vm.findClass RX0 = some m.cls := hown
  have hl : lv_has ls 7 [(0, .ref (a 0)), (1, .int (nI r)), (2, .int (nI i))] := hl
  refine lv_aload_n hx hb dX0_restOf_0 rfl (lv_at hl 0 rfl) ?_
  refine x_get hx hb hts hown hK hP rfl 6 (by decide) q39 rfl rfl dX0_restOf_1 ?_
  refine lv_iload_n hx hb dX0_restOf_4 rfl (lv_at hl 1 rfl) ?_
  refine lv_bipush (v := nI 8) hx hb dX0_restOf_5 (by decide) ?_
  refine na_mul hx hb dX0_restOf_7 ?_
  refine lv_iload_n hx hb dX0_restOf_8 rfl (lv_at hl 2 rfl) ?_
  refine na_add hx hb dX0_restOf_9 ?_
  refine ra_ld hx hb hK hP 6 0 rfl rfl (by omega) (by decide) dX0_restOf_10 ?_
  refine lv_istore_n (lv' := [(3, .int (nI (re ((r * 8) + i)))), (0, .ref (a 0)), (1, .int (nI r)), (2, .int (nI i))]) hx hb dX0_restOf_11 rfl hl (by decide) rfl (fun ls hl => ?_)
  refine lv_iconst (v := nI 0) hx hb dX0_restOf_12 (by decide) ?_
  refine lv_istore (lv' := [(4, .int (nI 0)), (3, .int (nI (re ((r * 8) + i)))), (0, .ref (a 0)), (1, .int (nI r)), (2, .int (nI i))]) hx hb dX0_restOf_13 hl (by decide) rfl (fun ls hl => ?_)
  refine pa_lpr (nL := 7) (fun k (x : Nat) => x = pf_rst da re ms mb r i k) (fun k (x : Nat) => [(0, .ref (a 0)), (1, .int (nI r)), (2, .int (nI i)), (3, .int (nI x)), (4, .int (nI k))]) 0 6 (by omega) (re ((r * 8) + i)) rfl (lv_sub hl [2, 3, 4, 1, 0] rfl) (fun k t ls hge hhi hI hl ih => ?_) (fun t ls hI hl => ?_)
  · skip
    have hI : t = pf_rst da re ms mb r i k := hI
    have hl : lv_has ls 7 [(0, .ref (a 0)), (1, .int (nI r)), (2, .int (nI i)), (3, .int (nI t)), (4, .int (nI k))] := hl
    have hs := pf_im_lt mb k ms
    refine lv_iload hx hb dX0_restOf_15 (lv_at hl 4 rfl) ?_
    refine lv_bipush (v := nI 6) hx hb dX0_restOf_17 (by decide) ?_
    refine na_icmp_ge (tgt := 71) hx hb dX0_restOf_19 (by decide) (by omega) (by omega) (fun hc9 => absurd hc9 (by omega)) (fun hc => ?_)
    refine lv_aload_n hx hb dX0_restOf_22 rfl (lv_at hl 0 rfl) ?_
    refine lv_iload hx hb dX0_restOf_23 (lv_at hl 4 rfl) ?_
    refine pa_callR (ci := 0) (n := 1) ⟨hx, hb, hml, hown, hts⟩ (m_isMissing l hms hmb (by omega)) hK hP rfl rfl (lw_V q142 q144 qs11 q18 q145) rfl rfl (by decide +kernel) ⟨by decide, by decide⟩ rfl hl.1 rfl (Nat.le_of_ble_eq_true rfl) dX0_restOf_25 ⟨Nat.le_refl _, Nat.le_refl _⟩ ?_
    refine lv_istore (lv' := [(5, .int (nI (pf_im mb k ms))), (0, .ref (a 0)), (1, .int (nI r)), (2, .int (nI i)), (3, .int (nI t)), (4, .int (nI k))]) hx hb dX0_restOf_28 hl (by decide) rfl (fun ls hl => ?_)
    refine lv_iload hx hb dX0_restOf_30 (lv_at hl 0 rfl) ?_
    refine na_if_ne (tgt := 65) hx hb dX0_restOf_32 (by decide) (by omega) (fun hc => ?_) (fun hc => ?_)
    · skip
      refine na_iinc (lv' := [(4, .int (nI (k + 1))), (5, .int (nI (pf_im mb k ms))), (0, .ref (a 0)), (1, .int (nI r)), (2, .int (nI i)), (3, .int (nI t))]) hx hb dX0_restOf_65 hl (k := 5) rfl (by decide) rfl (fun ls hl => ?_)
      refine lv_goto (tgt := 15) hx hb dX0_restOf_68 (by decide) ?_
      exact ih (t) _ (by rw [hI]; exact (if_neg hc).symm) (lv_sub hl [2, 3, 4, 5, 0] rfl)
    · skip
      refine lv_aload_n hx hb dX0_restOf_35 rfl (lv_at hl 1 rfl) ?_
      refine lv_iload_n hx hb dX0_restOf_36 rfl (lv_at hl 2 rfl) ?_
      refine lv_iload hx hb dX0_restOf_37 (lv_at hl 5 rfl) ?_
      refine pa_callR (ci := 0) (n := 2) ⟨hx, hb, hml, hown, hts⟩ (m_factor l (by omega) (by omega)) hK hP rfl rfl (lw_V q86 q88 qs2 q18 q89) rfl rfl (by decide +kernel) ⟨by decide, by decide⟩ rfl hl.1 rfl (Nat.le_of_ble_eq_true rfl) dX0_restOf_39 ⟨Nat.le_refl _, Nat.le_refl _⟩ ?_
      refine lv_istore (lv' := [(6, .int (nI (pf_fac r k))), (5, .int (nI (pf_im mb k ms))), (0, .ref (a 0)), (1, .int (nI r)), (2, .int (nI i)), (3, .int (nI t)), (4, .int (nI k))]) hx hb dX0_restOf_42 hl (by decide) rfl (fun ls hl => ?_)
      refine lv_iload_n hx hb dX0_restOf_44 rfl (lv_at hl 5 rfl) ?_
      refine lv_aload_n hx hb dX0_restOf_45 rfl (lv_at hl 2 rfl) ?_
      refine lv_iload hx hb dX0_restOf_46 (lv_at hl 0 rfl) ?_
      refine lv_aload_n hx hb dX0_restOf_48 rfl (lv_at hl 2 rfl) ?_
      refine x_get hx hb hts hown hK hP rfl 2 (by decide) q35 rfl rfl dX0_restOf_49 ?_
      refine lv_iload hx hb dX0_restOf_52 (lv_at hl 6 rfl) ?_
      refine lv_bipush (v := nI 8) hx hb dX0_restOf_54 (by decide) ?_
      refine na_mul hx hb dX0_restOf_56 ?_
      refine lv_iload_n hx hb dX0_restOf_57 rfl (lv_at hl 4 rfl) ?_
      refine na_add hx hb dX0_restOf_58 ?_
      refine ra_ld hx hb hK hP 3 0 rfl rfl (by omega) (by decide) dX0_restOf_59 ?_
      refine pa_callR (ci := 0) (n := 2) ⟨hx, hb, hml, hown, hts⟩ (m_times l (pf_fac_lt _ _) (hda _)) hK hP rfl rfl (lw_V q94 q96 qs4 q18 q97) rfl rfl (by decide +kernel) ⟨by decide, by decide⟩ rfl hl.1 rfl (Nat.le_of_ble_eq_true rfl) dX0_restOf_60 ⟨Nat.le_refl _, Nat.le_refl _⟩ ?_
      refine na_xor hx hb dX0_restOf_63 ?_
      refine lv_istore_n (lv' := [(3, .int (nI (t ^^^ (pf_mul (pf_fac r k) (da ((k * 8) + i)))))), (6, .int (nI (pf_fac r k))), (5, .int (nI (pf_im mb k ms))), (0, .ref (a 0)), (1, .int (nI r)), (2, .int (nI i)), (4, .int (nI k))]) hx hb dX0_restOf_64 rfl hl (by decide) rfl (fun ls hl => ?_)
      refine na_iinc (lv' := [(4, .int (nI (k + 1))), (3, .int (nI (t ^^^ (pf_mul (pf_fac r k) (da ((k * 8) + i)))))), (6, .int (nI (pf_fac r k))), (5, .int (nI (pf_im mb k ms))), (0, .ref (a 0)), (1, .int (nI r)), (2, .int (nI i))]) hx hb dX0_restOf_65 hl (k := 6) rfl (by decide) rfl (fun ls hl => ?_)
      refine lv_goto (tgt := 15) hx hb dX0_restOf_68 (by decide) ?_
      exact ih (t ^^^ (pf_mul (pf_fac r k) (da ((k * 8) + i)))) _ (by rw [hI]; exact (if_pos hc).symm) (lv_sub hl [4, 5, 6, 1, 0] rfl)
  · skip
    have hI : t = pf_rst da re ms mb r i 6 := hI
    have hl : lv_has ls 7 [(0, .ref (a 0)), (1, .int (nI r)), (2, .int (nI i)), (3, .int (nI t)), (4, .int (nI 6))] := hl
    refine lv_iload hx hb dX0_restOf_15 (lv_at hl 4 rfl) ?_
    refine lv_bipush (v := nI 6) hx hb dX0_restOf_17 (by decide) ?_
    refine na_icmp_ge (tgt := 71) hx hb dX0_restOf_19 (by decide) (by omega) (by omega) (fun hc => ?_) (fun hc9 => absurd hc9 (by omega))
    refine lv_iload_n hx hb dX0_restOf_71 rfl (lv_at hl 3 rfl) ?_
    exact pa_iretR hx hb hr hlk (by rw [hI]) dX0_restOf_72
end
section
set_option maxRecDepth 100000
set_option maxHeartbeats 4000000 in
theorem m_makeRecovery (l : Launch) {D : va_G} {a : Nat → Nat} {cI cZ : ClassId} {da th : Nat → Nat} {ck : Nat → Int32} {rc : Nat} {re rt : Nat → Nat} {ms : Nat} {mb ur eq : Nat → Nat} {r : Nat} (hN : pa_N 11 a) (hda : ∀ j, da j < 256) (hr1 : r < 4) : Met l yX0_makeRecovery (ws_ yX0_makeRecovery cX0_makeRecovery 6 none) (pa_rm 2 43) (PcX D clA [(cI, .int), (cZ, .boolean)] [.ref (a 0), .int (nI r)] (WX a cI cZ pf_P pf_E da th ck rc re rt ms mb ur eq)) (QcXv D clA (WX a cI cZ pf_P pf_E da th ck rc (pf_mk da re r 8) (pa_u rt r 1) ms mb ur eq) (pa_A 11 a)) 0 0 (pa_A 11 a) := by
  refine pa_enter (by decide) (Nat.le_of_ble_eq_true rfl) (fun p e s m below meth c ls hx hb hr hlk hml hown hin hts hP hK hl => ?_)
  have hown : s.vm.findClass RX0 = some m.cls := hown
  have hl : lv_has ls 6 [(0, .ref (a 0)), (1, .int (nI r))] := hl
  have hS : va_S (pa_A 11 a) s.heap s.heap [] := va_S.rf
  refine lv_aload_n hx hb dX0_makeRecovery_0 rfl (lv_at hl 0 rfl) ?_
  refine x_get hx hb hts hown hK hP rfl 7 (by decide) q40 rfl rfl dX0_makeRecovery_1 ?_
  refine lv_iload_n hx hb dX0_makeRecovery_4 rfl (lv_at hl 1 rfl) ?_
  refine lv_iconst (v := nI 1) hx hb dX0_makeRecovery_5 (by decide) ?_
  refine rz_st (ws' := WX a cI cZ pf_P pf_E da th ck rc re (pa_u rt r 1) ms mb ur eq) hx hb hK hP (WX_D hN) hS 7 1 rfl rfl (by omega) (by decide) (by decide) dX0_makeRecovery_6 rfl (fun H locs hP hS => ?_)
  refine lv_iconst (v := nI 0) hx hb dX0_makeRecovery_7 (by decide) ?_
  refine lv_istore_n (lv' := [(2, .int (nI 0)), (0, .ref (a 0)), (1, .int (nI r))]) hx hb dX0_makeRecovery_8 rfl hl (by decide) rfl (fun ls hl => ?_)
  refine pa_lpm (nL := 6) (fun i (x : (Nat → Nat)) => x = pf_mk da re r i) (fun i (x : (Nat → Nat)) => [(0, .ref (a 0)), (1, .int (nI r)), (2, .int (nI i))]) (fun i (x : (Nat → Nat)) => WX a cI cZ pf_P pf_E da th ck rc x (pa_u rt r 1) ms mb ur eq) 0 8 (by omega) (re) rfl (lv_sub hl [1, 2, 0] rfl) hP hS (fun i f H locs ls hge hhi hI hl hP hS ih => ?_) (fun f H locs ls hI hl hP hS => ?_)
  · skip
    have hI : f = pf_mk da re r i := hI
    have hl : lv_has ls 6 [(0, .ref (a 0)), (1, .int (nI r)), (2, .int (nI i))] := hl
    have hP : va_P D clA (WX a cI cZ pf_P pf_E da th ck rc f (pa_u rt r 1) ms mb ur eq) H := hP
    refine lv_iload_n hx hb dX0_makeRecovery_9 rfl (lv_at hl 2 rfl) ?_
    refine lv_bipush (v := nI 8) hx hb dX0_makeRecovery_10 (by decide) ?_
    refine na_icmp_ge (tgt := 81) hx hb dX0_makeRecovery_12 (by decide) (by omega) (by omega) (fun hc9 => absurd hc9 (by omega)) (fun hc => ?_)
    refine lv_iconst (v := nI 0) hx hb dX0_makeRecovery_15 (by decide) ?_
    refine lv_istore_n (lv' := [(3, .int (nI 0)), (0, .ref (a 0)), (1, .int (nI r)), (2, .int (nI i))]) hx hb dX0_makeRecovery_16 rfl hl (by decide) rfl (fun ls hl => ?_)
    refine lv_iconst (v := nI 0) hx hb dX0_makeRecovery_17 (by decide) ?_
    refine lv_istore (lv' := [(4, .int (nI 0)), (3, .int (nI 0)), (0, .ref (a 0)), (1, .int (nI r)), (2, .int (nI i))]) hx hb dX0_makeRecovery_18 hl (by decide) rfl (fun ls hl => ?_)
    refine pa_lpm (nL := 6) (fun k (x : Nat) => x = pf_rs da r i k) (fun k (x : Nat) => [(0, .ref (a 0)), (1, .int (nI r)), (2, .int (nI i)), (3, .int (nI x)), (4, .int (nI k))]) (fun k (x : Nat) => WX a cI cZ pf_P pf_E da th ck rc f (pa_u rt r 1) ms mb ur eq) 0 6 (by omega) (0) rfl (lv_sub hl [2, 3, 4, 1, 0] rfl) hP hS (fun k t H locs ls hge2 hhi2 hI2 hl hP hS ih2 => ?_) (fun t H locs ls hI2 hl hP hS => ?_)
    · skip
      have hI2 : t = pf_rs da r i k := hI2
      have hl : lv_has ls 6 [(0, .ref (a 0)), (1, .int (nI r)), (2, .int (nI i)), (3, .int (nI t)), (4, .int (nI k))] := hl
      have hP : va_P D clA (WX a cI cZ pf_P pf_E da th ck rc f (pa_u rt r 1) ms mb ur eq) H := hP
      refine lv_iload hx hb dX0_makeRecovery_20 (lv_at hl 4 rfl) ?_
      refine lv_bipush (v := nI 6) hx hb dX0_makeRecovery_22 (by decide) ?_
      refine na_icmp_ge (tgt := 63) hx hb dX0_makeRecovery_24 (by decide) (by omega) (by omega) (fun hc9 => absurd hc9 (by omega)) (fun hc2 => ?_)
      refine lv_aload_n hx hb dX0_makeRecovery_27 rfl (lv_at hl 0 rfl) ?_
      refine lv_iload_n hx hb dX0_makeRecovery_28 rfl (lv_at hl 1 rfl) ?_
      refine lv_iload hx hb dX0_makeRecovery_29 (lv_at hl 4 rfl) ?_
      refine pa_callR (ci := 0) (n := 2) ⟨hx, hb, hml, hown, hts⟩ (m_factor l (by omega) (by omega)) hK hP rfl rfl (lw_V q86 q88 qs2 q18 q89) rfl rfl (by decide +kernel) ⟨by decide, by decide⟩ rfl hl.1 rfl (Nat.le_of_ble_eq_true rfl) dX0_makeRecovery_31 ⟨Nat.le_refl _, Nat.le_refl _⟩ ?_
      refine lv_istore (lv' := [(5, .int (nI (pf_fac r k))), (0, .ref (a 0)), (1, .int (nI r)), (2, .int (nI i)), (3, .int (nI t)), (4, .int (nI k))]) hx hb dX0_makeRecovery_34 hl (by decide) rfl (fun ls hl => ?_)
      refine lv_iload_n hx hb dX0_makeRecovery_36 rfl (lv_at hl 4 rfl) ?_
      refine lv_aload_n hx hb dX0_makeRecovery_37 rfl (lv_at hl 1 rfl) ?_
      refine lv_iload hx hb dX0_makeRecovery_38 (lv_at hl 0 rfl) ?_
      refine lv_aload_n hx hb dX0_makeRecovery_40 rfl (lv_at hl 1 rfl) ?_
      refine x_get hx hb hts hown hK hP rfl 2 (by decide) q35 rfl rfl dX0_makeRecovery_41 ?_
      refine lv_iload hx hb dX0_makeRecovery_44 (lv_at hl 5 rfl) ?_
      refine lv_bipush (v := nI 8) hx hb dX0_makeRecovery_46 (by decide) ?_
      refine na_mul hx hb dX0_makeRecovery_48 ?_
      refine lv_iload_n hx hb dX0_makeRecovery_49 rfl (lv_at hl 3 rfl) ?_
      refine na_add hx hb dX0_makeRecovery_50 ?_
      refine ra_ld hx hb hK hP 3 0 rfl rfl (by omega) (by decide) dX0_makeRecovery_51 ?_
      refine pa_callR (ci := 0) (n := 2) ⟨hx, hb, hml, hown, hts⟩ (m_times l (pf_fac_lt _ _) (hda _)) hK hP rfl rfl (lw_V q94 q96 qs4 q18 q97) rfl rfl (by decide +kernel) ⟨by decide, by decide⟩ rfl hl.1 rfl (Nat.le_of_ble_eq_true rfl) dX0_makeRecovery_52 ⟨Nat.le_refl _, Nat.le_refl _⟩ ?_
      refine na_xor hx hb dX0_makeRecovery_55 ?_
      refine lv_istore_n (lv' := [(3, .int (nI (t ^^^ (pf_mul (pf_fac r k) (da ((k * 8) + i)))))), (5, .int (nI (pf_fac r k))), (0, .ref (a 0)), (1, .int (nI r)), (2, .int (nI i)), (4, .int (nI k))]) hx hb dX0_makeRecovery_56 rfl hl (by decide) rfl (fun ls hl => ?_)
      refine na_iinc (lv' := [(4, .int (nI (k + 1))), (3, .int (nI (t ^^^ (pf_mul (pf_fac r k) (da ((k * 8) + i)))))), (5, .int (nI (pf_fac r k))), (0, .ref (a 0)), (1, .int (nI r)), (2, .int (nI i))]) hx hb dX0_makeRecovery_57 hl (k := 5) rfl (by decide) rfl (fun ls hl => ?_)
      refine lv_goto (tgt := 20) hx hb dX0_makeRecovery_60 (by decide) ?_
      exact ih2 (t ^^^ (pf_mul (pf_fac r k) (da ((k * 8) + i)))) _ _ _ (by rw [hI2]; rfl) (lv_sub hl [3, 4, 5, 1, 0] rfl) hP hS
    · skip
      have hI2 : t = pf_rs da r i 6 := hI2
      have hl : lv_has ls 6 [(0, .ref (a 0)), (1, .int (nI r)), (2, .int (nI i)), (3, .int (nI t)), (4, .int (nI 6))] := hl
      have hP : va_P D clA (WX a cI cZ pf_P pf_E da th ck rc f (pa_u rt r 1) ms mb ur eq) H := hP
      refine lv_iload hx hb dX0_makeRecovery_20 (lv_at hl 4 rfl) ?_
      refine lv_bipush (v := nI 6) hx hb dX0_makeRecovery_22 (by decide) ?_
      refine na_icmp_ge (tgt := 63) hx hb dX0_makeRecovery_24 (by decide) (by omega) (by omega) (fun hc => ?_) (fun hc9 => absurd hc9 (by omega))
      refine lv_aload_n hx hb dX0_makeRecovery_63 rfl (lv_at hl 0 rfl) ?_
      refine x_get hx hb hts hown hK hP rfl 6 (by decide) q39 rfl rfl dX0_makeRecovery_64 ?_
      refine lv_iload_n hx hb dX0_makeRecovery_67 rfl (lv_at hl 1 rfl) ?_
      refine lv_bipush (v := nI 8) hx hb dX0_makeRecovery_68 (by decide) ?_
      refine na_mul hx hb dX0_makeRecovery_70 ?_
      refine lv_iload_n hx hb dX0_makeRecovery_71 rfl (lv_at hl 2 rfl) ?_
      refine na_add hx hb dX0_makeRecovery_72 ?_
      refine lv_iload_n hx hb dX0_makeRecovery_73 rfl (lv_at hl 3 rfl) ?_
      refine ra_st (ws' := WX a cI cZ pf_P pf_E da th ck rc (pa_u f ((r * 8) + i) t) (pa_u rt r 1) ms mb ur eq) hx hb hK hP (WX_D hN) hS 6 0 rfl rfl (by omega) (by decide) dX0_makeRecovery_74 rfl (fun H locs hP hS => ?_)
      refine na_iinc (lv' := [(2, .int (nI (i + 1))), (0, .ref (a 0)), (1, .int (nI r)), (3, .int (nI t)), (4, .int (nI 6))]) hx hb dX0_makeRecovery_75 hl (k := 2) rfl (by decide) rfl (fun ls hl => ?_)
      refine lv_goto (tgt := 9) hx hb dX0_makeRecovery_78 (by decide) ?_
      exact ih (pa_u f ((r * 8) + i) t) _ _ _ (by rw [hI, hI2]; rfl) (lv_sub hl [1, 2, 0] rfl) hP hS
  · skip
    have hI : f = pf_mk da re r 8 := hI
    have hl : lv_has ls 6 [(0, .ref (a 0)), (1, .int (nI r)), (2, .int (nI 8))] := hl
    have hP : va_P D clA (WX a cI cZ pf_P pf_E da th ck rc f (pa_u rt r 1) ms mb ur eq) H := hP
    refine lv_iload_n hx hb dX0_makeRecovery_9 rfl (lv_at hl 2 rfl) ?_
    refine lv_bipush (v := nI 8) hx hb dX0_makeRecovery_10 (by decide) ?_
    refine na_icmp_ge (tgt := 81) hx hb dX0_makeRecovery_12 (by decide) (by omega) (by omega) (fun hc => ?_) (fun hc9 => absurd hc9 (by omega))
    exact pa_vretM hx hb hr hlk (by rw [hI] at hP; exact hP) hS dX0_makeRecovery_81
set_option maxHeartbeats 4000000 in
theorem m_listMissing (l : Launch) {D : va_G} {a : Nat → Nat} {cI cZ : ClassId} {da th : Nat → Nat} {ck : Nat → Int32} {rc : Nat} {re rt : Nat → Nat} {ms : Nat} {mb ur eq : Nat → Nat} (hN : pa_N 11 a) (hth : ∀ j, th j < 2) : Met l yX0_listMissing (ws_ yX0_listMissing cX0_listMissing 3 none) (pa_rm 2 45) (PcX D clA [(cI, .int), (cZ, .boolean)] [.ref (a 0)] (WX a cI cZ pf_P pf_E da th ck rc re rt ms mb ur eq)) (QcXv D clA (WX a cI cZ pf_P pf_E da th ck rc re rt (pf_bad da th ck 6) (pf_lm da th ck mb 6) ur eq) (pa_A 11 a)) 0 0 (pa_A 11 a) := by
  refine pa_enter (by decide) (Nat.le_of_ble_eq_true rfl) (fun p e s m below meth c ls hx hb hr hlk hml hown hin hts hP hK hl => ?_)
  have hown : s.vm.findClass RX0 = some m.cls := hown
  have hl : lv_has ls 3 [(0, .ref (a 0))] := hl
  have hS : va_S (pa_A 11 a) s.heap s.heap [] := va_S.rf
  refine lv_aload_n hx hb dX0_listMissing_0 rfl (lv_at hl 0 rfl) ?_
  refine lv_iconst (v := nI 0) hx hb dX0_listMissing_1 (by decide) ?_
  refine x_put (ws' := WX a cI cZ pf_P pf_E da th ck rc re rt 0 mb ur eq) hx hb hts hown hK hP (WX_D hN) hS rfl 8 (by decide) q41 rfl rfl (by decide +kernel) (Nat.le_of_ble_eq_true rfl) dX0_listMissing_2 rfl (fun H locs hP hS => ?_)
  refine lv_iconst (v := nI 0) hx hb dX0_listMissing_5 (by decide) ?_
  refine lv_istore_n (lv' := [(1, .int (nI 0)), (0, .ref (a 0))]) hx hb dX0_listMissing_6 rfl hl (by decide) rfl (fun ls hl => ?_)
  refine pa_lpm (nL := 3) (fun i (x : Nat × (Nat → Nat)) => x.1 = pf_bad da th ck i ∧ x.2 = pf_lm da th ck mb i) (fun i (x : Nat × (Nat → Nat)) => [(0, .ref (a 0)), (1, .int (nI i))]) (fun i (x : Nat × (Nat → Nat)) => WX a cI cZ pf_P pf_E da th ck rc re rt x.1 x.2 ur eq) 0 6 (by omega) (0, mb) ⟨rfl, rfl⟩ (lv_sub hl [1, 0] rfl) hP hS (fun i x H locs ls hge hhi hI hl hP hS ih => ?_) (fun x H locs ls hI hl hP hS => ?_)
  · skip
    obtain ⟨n, f⟩ := x
    have hI : n = pf_bad da th ck i ∧ f = pf_lm da th ck mb i := hI
    have hl : lv_has ls 3 [(0, .ref (a 0)), (1, .int (nI i))] := hl
    have hP : va_P D clA (WX a cI cZ pf_P pf_E da th ck rc re rt n f ur eq) H := hP
    obtain ⟨hI1, hI2⟩ := hI
    have hs := pf_st_lt da th ck i
    have hn := pf_bad_le da th ck i
    refine lv_iload_n hx hb dX0_listMissing_7 rfl (lv_at hl 1 rfl) ?_
    refine lv_bipush (v := nI 6) hx hb dX0_listMissing_8 (by decide) ?_
    refine na_icmp_ge (tgt := 49) hx hb dX0_listMissing_10 (by decide) (by omega) (by omega) (fun hc9 => absurd hc9 (by omega)) (fun hc => ?_)
    refine lv_aload_n hx hb dX0_listMissing_13 rfl (lv_at hl 0 rfl) ?_
    refine lv_iload_n hx hb dX0_listMissing_14 rfl (lv_at hl 1 rfl) ?_
    refine pa_callR (ci := 0) (n := 1) ⟨hx, hb, hml, hown, hts⟩ (m_stateOf l hth (by omega)) hK hP rfl rfl (lw_V q82 q84 qs1 q18 q85) rfl rfl (by decide +kernel) ⟨by decide, by decide⟩ rfl hl.1 rfl (Nat.le_of_ble_eq_true rfl) dX0_listMissing_15 ⟨Nat.le_refl _, Nat.le_refl _⟩ ?_
    refine lv_istore_n (lv' := [(2, .int (nI (pf_st da th ck i))), (0, .ref (a 0)), (1, .int (nI i))]) hx hb dX0_listMissing_18 rfl hl (by decide) rfl (fun ls hl => ?_)
    refine lv_iload_n hx hb dX0_listMissing_19 rfl (lv_at hl 0 rfl) ?_
    refine na_if_eq (tgt := 43) hx hb dX0_listMissing_20 (by decide) (by omega) (fun hc => ?_) (fun hc => ?_)
    · skip
      refine na_iinc (lv' := [(1, .int (nI (i + 1))), (2, .int (nI (pf_st da th ck i))), (0, .ref (a 0))]) hx hb dX0_listMissing_43 hl (k := 2) rfl (by decide) rfl (fun ls hl => ?_)
      refine lv_goto (tgt := 7) hx hb dX0_listMissing_46 (by decide) ?_
      exact ih (n, f) _ _ _ ⟨by rw [hI1]; exact (if_pos hc).symm, by rw [hI2]; exact (if_pos hc).symm⟩ (lv_sub hl [2, 0] rfl) hP hS
    · skip
      refine lv_aload_n hx hb dX0_listMissing_23 rfl (lv_at hl 1 rfl) ?_
      refine x_get hx hb hts hown hK hP rfl 9 (by decide) q42 rfl rfl dX0_listMissing_24 ?_
      refine lv_aload_n hx hb dX0_listMissing_27 rfl (lv_at hl 1 rfl) ?_
      refine x_get hx hb hts hown hK hP rfl 8 (by decide) q41 rfl rfl dX0_listMissing_28 ?_
      refine lv_iload_n hx hb dX0_listMissing_31 rfl (lv_at hl 2 rfl) ?_
      refine ra_st (ws' := WX a cI cZ pf_P pf_E da th ck rc re rt n (pa_u f n i) ur eq) hx hb hK hP (WX_D hN) hS 8 0 rfl rfl (by omega) (by decide) dX0_listMissing_32 rfl (fun H locs hP hS => ?_)
      refine lv_aload_n hx hb dX0_listMissing_33 rfl (lv_at hl 1 rfl) ?_
      refine lv_dup hx hb dX0_listMissing_34 rfl ?_
      refine x_get hx hb hts hown hK hP rfl 8 (by decide) q41 rfl rfl dX0_listMissing_35 ?_
      refine lv_iconst (v := nI 1) hx hb dX0_listMissing_38 (by decide) ?_
      refine na_add hx hb dX0_listMissing_39 ?_
      refine x_put (ws' := WX a cI cZ pf_P pf_E da th ck rc re rt (n + 1) (pa_u f n i) ur eq) hx hb hts hown hK hP (WX_D hN) hS rfl 8 (by decide) q41 rfl rfl (by decide +kernel) (Nat.le_of_ble_eq_true rfl) dX0_listMissing_40 rfl (fun H locs hP hS => ?_)
      refine na_iinc (lv' := [(1, .int (nI (i + 1))), (2, .int (nI (pf_st da th ck i))), (0, .ref (a 0))]) hx hb dX0_listMissing_43 hl (k := 2) rfl (by decide) rfl (fun ls hl => ?_)
      refine lv_goto (tgt := 7) hx hb dX0_listMissing_46 (by decide) ?_
      exact ih (n + 1, pa_u f n i) _ _ _ ⟨by rw [hI1]; exact (if_neg hc).symm, by rw [hI1, hI2]; exact (if_neg hc).symm⟩ (lv_sub hl [2, 0] rfl) hP hS
  · skip
    obtain ⟨n, f⟩ := x
    have hI : n = pf_bad da th ck 6 ∧ f = pf_lm da th ck mb 6 := hI
    have hl : lv_has ls 3 [(0, .ref (a 0)), (1, .int (nI 6))] := hl
    have hP : va_P D clA (WX a cI cZ pf_P pf_E da th ck rc re rt n f ur eq) H := hP
    refine lv_iload_n hx hb dX0_listMissing_7 rfl (lv_at hl 1 rfl) ?_
    refine lv_bipush (v := nI 6) hx hb dX0_listMissing_8 (by decide) ?_
    refine na_icmp_ge (tgt := 49) hx hb dX0_listMissing_10 (by decide) (by omega) (by omega) (fun hc => ?_) (fun hc9 => absurd hc9 (by omega))
    exact pa_vretM hx hb hr hlk (by rw [hI.1, hI.2] at hP; exact hP) hS dX0_listMissing_49
theorem pf_good_mono {rt : Nat → Nat} {i : Nat} : ∀ n, pf_good rt i ≤ pf_good rt (i + n)
  | 0 => Nat.le_refl _
  | n + 1 => by
    have := pf_good_mono (rt := rt) (i := i) n
    have h2 : pf_good rt (i + (n + 1)) = if rt (i + n) = 0 then pf_good rt (i + n) else pf_good rt (i + n) + 1 := rfl
    rw [h2]
    split
    · exact this
    · omega
theorem pf_us_stop {rt : Nat → Nat} {ms : Nat} {ur : Nat → Nat} {i : Nat} (h : ms ≤ pf_good rt i) : ∀ n, pf_us rt ms ur (i + n) = pf_us rt ms ur i
  | 0 => rfl
  | n + 1 => by
    show pf_us rt ms ur ((i + n) + 1) = _
    rw [← pf_us_stop h n]
    exact if_pos (Or.inr (Nat.le_trans h (pf_good_mono n)))
theorem pf_us_stop' {rt : Nat → Nat} {ms : Nat} {ur : Nat → Nat} {i r : Nat} (h : ms ≤ pf_good rt i) (hr : i ≤ r) : pf_us rt ms ur i = pf_us rt ms ur r := by
  obtain ⟨n, rfl⟩ : ∃ n, r = i + n := ⟨r - i, by omega⟩
  exact (pf_us_stop h n).symm
set_option maxHeartbeats 4000000 in
theorem m_setEquations (l : Launch) {D : va_G} {a : Nat → Nat} {cI cZ : ClassId} {da th : Nat → Nat} {ck : Nat → Int32} {rc : Nat} {re rt : Nat → Nat} {ms : Nat} {mb ur eq : Nat → Nat} (hN : pa_N 11 a) (hda : ∀ j, da j < 256) (hms : ms ≤ 4) (hmb : ∀ j, mb j < 6) (hur : ∀ j, ur j < 4) (hrc : rc ≤ 4) (hrt : ∀ j, rt j < 2) : Met l yX0_setEquations (ws_ yX0_setEquations cX0_setEquations 5 none) (pa_rm 3 69) (PcX D clA [(cI, .int), (cZ, .boolean)] [.ref (a 0)] (WX a cI cZ pf_P pf_E da th ck rc re rt ms mb ur eq)) (QcXv D clA (WX a cI cZ pf_P pf_E da th ck rc re rt ms mb (pf_us rt ms ur rc) (pf_se da re ms mb (pf_us rt ms ur rc) eq ms)) (pa_A 11 a)) 0 0 (pa_A 11 a) := by
  refine pa_enter (by decide) (Nat.le_of_ble_eq_true rfl) (fun p e s m below meth c ls hx hb hr hlk hml hown hin hts hP hK hl => ?_)
  have hown : s.vm.findClass RX0 = some m.cls := hown
  have hl : lv_has ls 5 [(0, .ref (a 0))] := hl
  have hS : va_S (pa_A 11 a) s.heap s.heap [] := va_S.rf
  have hms6 : ms ≤ 6 := by omega
  have hU : ∀ j, pf_us rt ms ur rc j < 4 := pf_us_lt hur rc hrc
  have hrest : ∀ (H : Heap) (locs : List Loc) (ls : Array Slot) (_ : True), lv_has ls 5 [(0, .ref (a 0))] → va_P D clA (WX a cI cZ pf_P pf_E da th ck rc re rt ms mb (pf_us rt ms ur rc) eq) H → va_S (pa_A 11 a) s.heap H locs → W p l e (pa_rm 3 69) s m ([.ref (a 0)] : List Value).toArray below meth c H locs 0 0 (MQ below (QcXv D clA (WX a cI cZ pf_P pf_E da th ck rc re rt ms mb (pf_us rt ms ur rc) (pf_se da re ms mb (pf_us rt ms ur rc) eq ms)) (pa_A 11 a)) ([.ref (a 0)] : List Value).toArray s 0 0 (pa_A 11 a)) (F0 m 45 ls []) := by
    intro H locs ls _  hl hP hS
    refine lv_iconst (v := nI 0) hx hb dX0_setEquations_45 (by decide) ?_
    refine lv_istore_n (lv' := [(2, .int (nI 0)), (0, .ref (a 0))]) hx hb dX0_setEquations_46 rfl hl (by decide) rfl (fun ls hl => ?_)
    refine pa_lpm (nL := 5) (fun i (x : (Nat → Nat)) => x = pf_se da re ms mb (pf_us rt ms ur rc) eq i) (fun i (x : (Nat → Nat)) => [(0, .ref (a 0)), (2, .int (nI i))]) (fun i (x : (Nat → Nat)) => WX a cI cZ pf_P pf_E da th ck rc re rt ms mb (pf_us rt ms ur rc) x) 0 ms (by omega) (eq) rfl (lv_sub hl [1, 0] rfl) hP hS (fun i f H locs ls hge hhi hI hl hP hS ih => ?_) (fun f H locs ls hI hl hP hS => ?_)
    · skip
      have hI : f = pf_se da re ms mb (pf_us rt ms ur rc) eq i := hI
      have hl : lv_has ls 5 [(0, .ref (a 0)), (2, .int (nI i))] := hl
      have hP : va_P D clA (WX a cI cZ pf_P pf_E da th ck rc re rt ms mb (pf_us rt ms ur rc) f) H := hP
      have hUi := hU i
      refine lv_iload_n hx hb dX0_setEquations_47 rfl (lv_at hl 1 rfl) ?_
      refine lv_aload_n hx hb dX0_setEquations_48 rfl (lv_at hl 0 rfl) ?_
      refine x_get hx hb hts hown hK hP rfl 8 (by decide) q41 rfl rfl dX0_setEquations_49 ?_
      refine na_icmp_ge (tgt := 149) hx hb dX0_setEquations_52 (by decide) (by omega) (by omega) (fun hc9 => absurd hc9 (by omega)) (fun hc => ?_)
      refine lv_iconst (v := nI 0) hx hb dX0_setEquations_55 (by decide) ?_
      refine lv_istore_n (lv' := [(3, .int (nI 0)), (0, .ref (a 0)), (2, .int (nI i))]) hx hb dX0_setEquations_56 rfl hl (by decide) rfl (fun ls hl => ?_)
      refine pa_lpm (nL := 5) (fun j (x : (Nat → Nat)) => x = pf_sa (pf_us rt ms ur rc) mb i f j) (fun j (x : (Nat → Nat)) => [(0, .ref (a 0)), (2, .int (nI i)), (3, .int (nI j))]) (fun j (x : (Nat → Nat)) => WX a cI cZ pf_P pf_E da th ck rc re rt ms mb (pf_us rt ms ur rc) x) 0 ms (by omega) (f) rfl (lv_sub hl [1, 2, 0] rfl) hP hS (fun j f2 H locs ls hge2 hhi2 hI2 hl hP hS ih2 => ?_) (fun f2 H locs ls hI2 hl hP hS => ?_)
      · skip
        have hI2 : f2 = pf_sa (pf_us rt ms ur rc) mb i f j := hI2
        have hl : lv_has ls 5 [(0, .ref (a 0)), (2, .int (nI i)), (3, .int (nI j))] := hl
        have hP : va_P D clA (WX a cI cZ pf_P pf_E da th ck rc re rt ms mb (pf_us rt ms ur rc) f2) H := hP
        have hmbj := hmb j
        refine lv_iload_n hx hb dX0_setEquations_57 rfl (lv_at hl 2 rfl) ?_
        refine lv_aload_n hx hb dX0_setEquations_58 rfl (lv_at hl 0 rfl) ?_
        refine x_get hx hb hts hown hK hP rfl 8 (by decide) q41 rfl rfl dX0_setEquations_59 ?_
        refine na_icmp_ge (tgt := 98) hx hb dX0_setEquations_62 (by decide) (by omega) (by omega) (fun hc9 => absurd hc9 (by omega)) (fun hc => ?_)
        refine lv_aload_n hx hb dX0_setEquations_65 rfl (lv_at hl 0 rfl) ?_
        refine x_get hx hb hts hown hK hP rfl 11 (by decide) q44 rfl rfl dX0_setEquations_66 ?_
        refine lv_iload_n hx hb dX0_setEquations_69 rfl (lv_at hl 1 rfl) ?_
        refine lv_bipush (v := nI 12) hx hb dX0_setEquations_70 (by decide) ?_
        refine na_mul hx hb dX0_setEquations_72 ?_
        refine lv_iload_n hx hb dX0_setEquations_73 rfl (lv_at hl 2 rfl) ?_
        refine na_add hx hb dX0_setEquations_74 ?_
        refine lv_aload_n hx hb dX0_setEquations_75 rfl (lv_at hl 0 rfl) ?_
        refine lv_aload_n hx hb dX0_setEquations_76 rfl (lv_at hl 0 rfl) ?_
        refine x_get hx hb hts hown hK hP rfl 10 (by decide) q43 rfl rfl dX0_setEquations_77 ?_
        refine lv_iload_n hx hb dX0_setEquations_80 rfl (lv_at hl 1 rfl) ?_
        refine ra_ld hx hb hK hP 9 0 rfl rfl (by omega) (by decide) dX0_setEquations_81 ?_
        refine lv_aload_n hx hb dX0_setEquations_82 rfl (lv_at hl 0 rfl) ?_
        refine x_get hx hb hts hown hK hP rfl 9 (by decide) q42 rfl rfl dX0_setEquations_83 ?_
        refine lv_iload_n hx hb dX0_setEquations_86 rfl (lv_at hl 2 rfl) ?_
        refine ra_ld hx hb hK hP 8 0 rfl rfl (by omega) (by decide) dX0_setEquations_87 ?_
        refine pa_callR (ci := 0) (n := 2) ⟨hx, hb, hml, hown, hts⟩ (m_factor l (by omega) (by omega)) hK hP rfl rfl (lw_V q86 q88 qs2 q18 q89) rfl rfl (by decide +kernel) ⟨by decide, by decide⟩ rfl hl.1 rfl (Nat.le_of_ble_eq_true rfl) dX0_setEquations_88 ⟨Nat.le_refl _, Nat.le_refl _⟩ ?_
        refine ra_st (ws' := WX a cI cZ pf_P pf_E da th ck rc re rt ms mb (pf_us rt ms ur rc) (pa_u f2 ((i * 12) + j) (pf_fac ((pf_us rt ms ur rc) i) (mb j)))) hx hb hK hP (WX_D hN) hS 10 0 rfl rfl (by omega) (by decide) dX0_setEquations_91 rfl (fun H locs hP hS => ?_)
        refine na_iinc (lv' := [(3, .int (nI (j + 1))), (0, .ref (a 0)), (2, .int (nI i))]) hx hb dX0_setEquations_92 hl (k := 2) rfl (by decide) rfl (fun ls hl => ?_)
        refine lv_goto (tgt := 57) hx hb dX0_setEquations_95 (by decide) ?_
        exact ih2 (pa_u f2 ((i * 12) + j) (pf_fac ((pf_us rt ms ur rc) i) (mb j))) _ _ _ (by rw [hI2]; rfl) (lv_sub hl [1, 2, 0] rfl) hP hS
      · skip
        have hI2 : f2 = pf_sa (pf_us rt ms ur rc) mb i f ms := hI2
        have hl : lv_has ls 5 [(0, .ref (a 0)), (2, .int (nI i)), (3, .int (nI ms))] := hl
        have hP : va_P D clA (WX a cI cZ pf_P pf_E da th ck rc re rt ms mb (pf_us rt ms ur rc) f2) H := hP
        refine lv_iload_n hx hb dX0_setEquations_57 rfl (lv_at hl 2 rfl) ?_
        refine lv_aload_n hx hb dX0_setEquations_58 rfl (lv_at hl 0 rfl) ?_
        refine x_get hx hb hts hown hK hP rfl 8 (by decide) q41 rfl rfl dX0_setEquations_59 ?_
        refine na_icmp_ge (tgt := 98) hx hb dX0_setEquations_62 (by decide) (by omega) (by omega) (fun hc => ?_) (fun hc9 => absurd hc9 (by omega))
        refine lv_iconst (v := nI 0) hx hb dX0_setEquations_98 (by decide) ?_
        refine lv_istore_n (lv' := [(3, .int (nI 0)), (0, .ref (a 0)), (2, .int (nI i))]) hx hb dX0_setEquations_99 rfl hl (by decide) rfl (fun ls hl => ?_)
        refine pa_lpm (nL := 5) (fun k (x : (Nat → Nat)) => x = pf_sb da re ms mb (pf_us rt ms ur rc) i f2 k) (fun k (x : (Nat → Nat)) => [(0, .ref (a 0)), (2, .int (nI i)), (3, .int (nI k))]) (fun k (x : (Nat → Nat)) => WX a cI cZ pf_P pf_E da th ck rc re rt ms mb (pf_us rt ms ur rc) x) 0 8 (by omega) (f2) rfl (lv_sub hl [1, 2, 0] rfl) hP hS (fun k f3 H locs ls hge3 hhi3 hI3 hl hP hS ih3 => ?_) (fun f3 H locs ls hI3 hl hP hS => ?_)
        · skip
          have hI3 : f3 = pf_sb da re ms mb (pf_us rt ms ur rc) i f2 k := hI3
          have hl : lv_has ls 5 [(0, .ref (a 0)), (2, .int (nI i)), (3, .int (nI k))] := hl
          have hP : va_P D clA (WX a cI cZ pf_P pf_E da th ck rc re rt ms mb (pf_us rt ms ur rc) f3) H := hP
          refine lv_iload_n hx hb dX0_setEquations_100 rfl (lv_at hl 2 rfl) ?_
          refine lv_bipush (v := nI 8) hx hb dX0_setEquations_101 (by decide) ?_
          refine na_icmp_ge (tgt := 143) hx hb dX0_setEquations_103 (by decide) (by omega) (by omega) (fun hc9 => absurd hc9 (by omega)) (fun hc => ?_)
          refine lv_aload_n hx hb dX0_setEquations_106 rfl (lv_at hl 0 rfl) ?_
          refine lv_aload_n hx hb dX0_setEquations_107 rfl (lv_at hl 0 rfl) ?_
          refine x_get hx hb hts hown hK hP rfl 10 (by decide) q43 rfl rfl dX0_setEquations_108 ?_
          refine lv_iload_n hx hb dX0_setEquations_111 rfl (lv_at hl 1 rfl) ?_
          refine ra_ld hx hb hK hP 9 0 rfl rfl (by omega) (by decide) dX0_setEquations_112 ?_
          refine lv_iload_n hx hb dX0_setEquations_113 rfl (lv_at hl 2 rfl) ?_
          refine pa_callR (ci := 0) (n := 2) ⟨hx, hb, hml, hown, hts⟩ (m_restOf l hda hms6 hmb (by omega) (by omega)) hK hP rfl rfl (lw_V q138 q140 qs10 q18 q141) rfl rfl (by decide +kernel) ⟨by decide, by decide⟩ rfl hl.1 rfl (Nat.le_of_ble_eq_true rfl) dX0_setEquations_114 ⟨Nat.le_refl _, Nat.le_refl _⟩ ?_
          refine lv_istore (lv' := [(4, .int (nI (pf_rst da re ms mb ((pf_us rt ms ur rc) i) k 6))), (0, .ref (a 0)), (2, .int (nI i)), (3, .int (nI k))]) hx hb dX0_setEquations_117 hl (by decide) rfl (fun ls hl => ?_)
          refine lv_aload_n hx hb dX0_setEquations_119 rfl (lv_at hl 1 rfl) ?_
          refine x_get hx hb hts hown hK hP rfl 11 (by decide) q44 rfl rfl dX0_setEquations_120 ?_
          refine lv_iload_n hx hb dX0_setEquations_123 rfl (lv_at hl 2 rfl) ?_
          refine lv_bipush (v := nI 12) hx hb dX0_setEquations_124 (by decide) ?_
          refine na_mul hx hb dX0_setEquations_126 ?_
          refine lv_aload_n hx hb dX0_setEquations_127 rfl (lv_at hl 1 rfl) ?_
          refine x_get hx hb hts hown hK hP rfl 8 (by decide) q41 rfl rfl dX0_setEquations_128 ?_
          refine na_add hx hb dX0_setEquations_131 ?_
          refine lv_iload_n hx hb dX0_setEquations_132 rfl (lv_at hl 3 rfl) ?_
          refine na_add hx hb dX0_setEquations_133 ?_
          refine lv_iload hx hb dX0_setEquations_134 (lv_at hl 0 rfl) ?_
          refine ra_st (ws' := WX a cI cZ pf_P pf_E da th ck rc re rt ms mb (pf_us rt ms ur rc) (pa_u f3 (((i * 12) + ms) + k) (pf_rst da re ms mb ((pf_us rt ms ur rc) i) k 6))) hx hb hK hP (WX_D hN) hS 10 0 rfl rfl (by omega) (by decide) dX0_setEquations_136 rfl (fun H locs hP hS => ?_)
          refine na_iinc (lv' := [(3, .int (nI (k + 1))), (4, .int (nI (pf_rst da re ms mb ((pf_us rt ms ur rc) i) k 6))), (0, .ref (a 0)), (2, .int (nI i))]) hx hb dX0_setEquations_137 hl (k := 3) rfl (by decide) rfl (fun ls hl => ?_)
          refine lv_goto (tgt := 100) hx hb dX0_setEquations_140 (by decide) ?_
          exact ih3 (pa_u f3 (((i * 12) + ms) + k) (pf_rst da re ms mb ((pf_us rt ms ur rc) i) k 6)) _ _ _ (by rw [hI3]; rfl) (lv_sub hl [2, 3, 0] rfl) hP hS
        · skip
          have hI3 : f3 = pf_sb da re ms mb (pf_us rt ms ur rc) i f2 8 := hI3
          have hl : lv_has ls 5 [(0, .ref (a 0)), (2, .int (nI i)), (3, .int (nI 8))] := hl
          have hP : va_P D clA (WX a cI cZ pf_P pf_E da th ck rc re rt ms mb (pf_us rt ms ur rc) f3) H := hP
          refine lv_iload_n hx hb dX0_setEquations_100 rfl (lv_at hl 2 rfl) ?_
          refine lv_bipush (v := nI 8) hx hb dX0_setEquations_101 (by decide) ?_
          refine na_icmp_ge (tgt := 143) hx hb dX0_setEquations_103 (by decide) (by omega) (by omega) (fun hc => ?_) (fun hc9 => absurd hc9 (by omega))
          refine na_iinc (lv' := [(2, .int (nI (i + 1))), (0, .ref (a 0)), (3, .int (nI 8))]) hx hb dX0_setEquations_143 hl (k := 1) rfl (by decide) rfl (fun ls hl => ?_)
          refine lv_goto (tgt := 47) hx hb dX0_setEquations_146 (by decide) ?_
          exact ih (f3) _ _ _ (by rw [hI3, hI2, hI]; rfl) (lv_sub hl [1, 0] rfl) hP hS
    · skip
      have hI : f = pf_se da re ms mb (pf_us rt ms ur rc) eq ms := hI
      have hl : lv_has ls 5 [(0, .ref (a 0)), (2, .int (nI ms))] := hl
      have hP : va_P D clA (WX a cI cZ pf_P pf_E da th ck rc re rt ms mb (pf_us rt ms ur rc) f) H := hP
      refine lv_iload_n hx hb dX0_setEquations_47 rfl (lv_at hl 1 rfl) ?_
      refine lv_aload_n hx hb dX0_setEquations_48 rfl (lv_at hl 0 rfl) ?_
      refine x_get hx hb hts hown hK hP rfl 8 (by decide) q41 rfl rfl dX0_setEquations_49 ?_
      refine na_icmp_ge (tgt := 149) hx hb dX0_setEquations_52 (by decide) (by omega) (by omega) (fun hc => ?_) (fun hc9 => absurd hc9 (by omega))
      exact pa_vretM hx hb hr hlk (by rw [hI] at hP; exact hP) hS dX0_setEquations_149
  refine lv_iconst (v := nI 0) hx hb dX0_setEquations_0 (by decide) ?_
  refine lv_istore_n (lv' := [(1, .int (nI 0)), (0, .ref (a 0))]) hx hb dX0_setEquations_1 rfl hl (by decide) rfl (fun ls hl => ?_)
  refine lv_iconst (v := nI 0) hx hb dX0_setEquations_2 (by decide) ?_
  refine lv_istore_n (lv' := [(2, .int (nI 0)), (1, .int (nI 0)), (0, .ref (a 0))]) hx hb dX0_setEquations_3 rfl hl (by decide) rfl (fun ls hl => ?_)
  refine pa_lpm (nL := 5) (fun i (x : Nat × (Nat → Nat)) => x.1 = pf_good rt i ∧ x.2 = pf_us rt ms ur i ∧ x.1 ≤ ms) (fun i (x : Nat × (Nat → Nat)) => [(0, .ref (a 0)), (1, .int (nI x.1)), (2, .int (nI i))]) (fun i (x : Nat × (Nat → Nat)) => WX a cI cZ pf_P pf_E da th ck rc re rt ms mb x.2 eq) 0 rc (by omega) (0, ur) ⟨rfl, rfl, Nat.zero_le _⟩ (lv_sub hl [2, 1, 0] rfl) hP hS (fun i x H locs ls hge hhi hI hl hP hS ih => ?_) (fun x H locs ls hI hl hP hS => ?_)
  · skip
    obtain ⟨n, f⟩ := x
    have hI : n = pf_good rt i ∧ f = pf_us rt ms ur i ∧ n ≤ ms := hI
    have hl : lv_has ls 5 [(0, .ref (a 0)), (1, .int (nI n)), (2, .int (nI i))] := hl
    have hP : va_P D clA (WX a cI cZ pf_P pf_E da th ck rc re rt ms mb f eq) H := hP
    obtain ⟨hI1, hI2, hI3⟩ := hI
    have hs := hrt i
    refine lv_iload_n hx hb dX0_setEquations_4 rfl (lv_at hl 2 rfl) ?_
    refine lv_aload_n hx hb dX0_setEquations_5 rfl (lv_at hl 0 rfl) ?_
    refine x_get hx hb hts hown hK hP rfl 5 (by decide) q38 rfl rfl dX0_setEquations_6 ?_
    refine na_icmp_ge (tgt := 45) hx hb dX0_setEquations_9 (by decide) (by omega) (by omega) (fun hc9 => absurd hc9 (by omega)) (fun hc => ?_)
    refine lv_iload_n hx hb dX0_setEquations_12 rfl (lv_at hl 1 rfl) ?_
    refine lv_aload_n hx hb dX0_setEquations_13 rfl (lv_at hl 0 rfl) ?_
    refine x_get hx hb hts hown hK hP rfl 8 (by decide) q41 rfl rfl dX0_setEquations_14 ?_
    refine na_icmp_ge (tgt := 45) hx hb dX0_setEquations_17 (by decide) (by omega) (by omega) (fun hc => ?_) (fun hc => ?_)
    · skip
      have hP : va_P D clA (WX a cI cZ pf_P pf_E da th ck rc re rt ms mb (pf_us rt ms ur rc) eq) _ := (by rw [hI2, pf_us_stop' (by omega) (Nat.le_of_lt hhi)] at hP; exact hP)
      exact hrest _ _ _ trivial  (lv_sub hl [0] rfl) hP hS
    · skip
      refine lv_aload_n hx hb dX0_setEquations_20 rfl (lv_at hl 0 rfl) ?_
      refine x_get hx hb hts hown hK hP rfl 7 (by decide) q40 rfl rfl dX0_setEquations_21 ?_
      refine lv_iload_n hx hb dX0_setEquations_24 rfl (lv_at hl 2 rfl) ?_
      refine rz_ld hx hb hK hP 7 1 rfl rfl (by omega) (by decide) dX0_setEquations_25 ?_
      refine na_if_eq (tgt := 39) hx hb dX0_setEquations_26 (by decide) (by omega) (fun hd => ?_) (fun hd => ?_)
      · skip
        refine na_iinc (lv' := [(2, .int (nI (i + 1))), (0, .ref (a 0)), (1, .int (nI n))]) hx hb dX0_setEquations_39 hl (k := 2) rfl (by decide) rfl (fun ls hl => ?_)
        refine lv_goto (tgt := 4) hx hb dX0_setEquations_42 (by decide) ?_
        exact ih (n, f) _ _ _ ⟨by rw [hI1]; exact (if_pos hd).symm, by rw [hI2]; exact (if_pos (Or.inl hd)).symm, hI3⟩ (lv_sub hl [1, 2, 0] rfl) hP hS
      · skip
        refine lv_aload_n hx hb dX0_setEquations_29 rfl (lv_at hl 0 rfl) ?_
        refine x_get hx hb hts hown hK hP rfl 10 (by decide) q43 rfl rfl dX0_setEquations_30 ?_
        refine lv_iload_n hx hb dX0_setEquations_33 rfl (lv_at hl 1 rfl) ?_
        refine lv_iload_n hx hb dX0_setEquations_34 rfl (lv_at hl 2 rfl) ?_
        refine ra_st (ws' := WX a cI cZ pf_P pf_E da th ck rc re rt ms mb (pa_u f n i) eq) hx hb hK hP (WX_D hN) hS 9 0 rfl rfl (by omega) (by decide) dX0_setEquations_35 rfl (fun H locs hP hS => ?_)
        refine na_iinc (lv' := [(1, .int (nI (n + 1))), (0, .ref (a 0)), (2, .int (nI i))]) hx hb dX0_setEquations_36 hl (k := 1) rfl (by decide) rfl (fun ls hl => ?_)
        refine na_iinc (lv' := [(2, .int (nI (i + 1))), (1, .int (nI (n + 1))), (0, .ref (a 0))]) hx hb dX0_setEquations_39 hl (k := 2) rfl (by decide) rfl (fun ls hl => ?_)
        refine lv_goto (tgt := 4) hx hb dX0_setEquations_42 (by decide) ?_
        exact ih (n + 1, pa_u f n i) _ _ _ ⟨by rw [hI1]; exact (if_neg hd).symm, by rw [hI1, hI2]; exact (if_neg (fun q => q.elim hd (fun q => by omega))).symm, by omega⟩ (lv_sub hl [2, 1, 0] rfl) hP hS
  · skip
    obtain ⟨n, f⟩ := x
    have hI : n = pf_good rt rc ∧ f = pf_us rt ms ur rc ∧ n ≤ ms := hI
    have hl : lv_has ls 5 [(0, .ref (a 0)), (1, .int (nI n)), (2, .int (nI rc))] := hl
    have hP : va_P D clA (WX a cI cZ pf_P pf_E da th ck rc re rt ms mb f eq) H := hP
    refine lv_iload_n hx hb dX0_setEquations_4 rfl (lv_at hl 2 rfl) ?_
    refine lv_aload_n hx hb dX0_setEquations_5 rfl (lv_at hl 0 rfl) ?_
    refine x_get hx hb hts hown hK hP rfl 5 (by decide) q38 rfl rfl dX0_setEquations_6 ?_
    refine na_icmp_ge (tgt := 45) hx hb dX0_setEquations_9 (by decide) (by omega) (by omega) (fun hc => ?_) (fun hc9 => absurd hc9 (by omega))
    have hP : va_P D clA (WX a cI cZ pf_P pf_E da th ck rc re rt ms mb (pf_us rt ms ur rc) eq) _ := (by rw [hI.2.1] at hP; exact hP)
    exact hrest _ _ _ trivial  (lv_sub hl [0] rfl) hP hS
set_option maxHeartbeats 4000000 in
theorem m_eliminate (l : Launch) {D : va_G} {a : Nat → Nat} {cI cZ : ClassId} {da th : Nat → Nat} {ck : Nat → Int32} {rc : Nat} {re rt : Nat → Nat} {ms : Nat} {mb ur eq : Nat → Nat} {k : Nat} (hN : pa_N 11 a) (heq : ∀ j, eq j < 256) (hms : ms ≤ 4) (hk1 : k < ms) (hpv : eq (k * 12 + k) ≠ 0) : Met l yX0_eliminate (ws_ yX0_eliminate cX0_eliminate 7 none) (pa_rm 1 22) (PcX D clA [(cI, .int), (cZ, .boolean)] [.ref (a 0), .int (nI k)] (WX a cI cZ pf_P pf_E da th ck rc re rt ms mb ur eq)) (QcXv D clA (WX a cI cZ pf_P pf_E da th ck rc re rt ms mb ur (pf_el ms k eq)) (pa_A 11 a)) 0 0 (pa_A 11 a) := by
  refine pa_enter (by decide) (Nat.le_of_ble_eq_true rfl) (fun p e s m below meth c ls hx hb hr hlk hml hown hin hts hP hK hl => ?_)
  have hown : s.vm.findClass RX0 = some m.cls := hown
  have hl : lv_has ls 7 [(0, .ref (a 0)), (1, .int (nI k))] := hl
  have hS : va_S (pa_A 11 a) s.heap s.heap [] := va_S.rf
  have hrest : ∀ (H : Heap) (locs : List Loc) (ls : Array Slot) (_ : True), lv_has ls 7 [(0, .ref (a 0)), (1, .int (nI k)), (2, .int (nI k))] → va_P D clA (WX a cI cZ pf_P pf_E da th ck rc re rt ms mb ur eq) H → va_S (pa_A 11 a) s.heap H locs → W p l e (pa_rm 1 22) s m ([.ref (a 0), .int (nI k)] : List Value).toArray below meth c H locs 0 0 (MQ below (QcXv D clA (WX a cI cZ pf_P pf_E da th ck rc re rt ms mb ur (pf_el ms k eq)) (pa_A 11 a)) ([.ref (a 0), .int (nI k)] : List Value).toArray s 0 0 (pa_A 11 a)) (F0 m 32 ls []) := by
    intro H locs ls _  hl hP hS
    refine lv_iload_n hx hb dX0_eliminate_32 rfl (lv_at hl 2 rfl) ?_
    refine lv_iload_n hx hb dX0_eliminate_33 rfl (lv_at hl 1 rfl) ?_
    refine na_icmp_eq (tgt := 43) hx hb dX0_eliminate_34 (by decide) (by omega) (by omega) (fun hc => ?_) (fun hc9 => absurd hc9 (by omega))
    refine lv_aload_n hx hb dX0_eliminate_43 rfl (lv_at hl 0 rfl) ?_
    refine lv_aload_n hx hb dX0_eliminate_44 rfl (lv_at hl 0 rfl) ?_
    refine x_get hx hb hts hown hK hP rfl 11 (by decide) q44 rfl rfl dX0_eliminate_45 ?_
    refine lv_iload_n hx hb dX0_eliminate_48 rfl (lv_at hl 1 rfl) ?_
    refine lv_bipush (v := nI 12) hx hb dX0_eliminate_49 (by decide) ?_
    refine na_mul hx hb dX0_eliminate_51 ?_
    refine lv_iload_n hx hb dX0_eliminate_52 rfl (lv_at hl 1 rfl) ?_
    refine na_add hx hb dX0_eliminate_53 ?_
    refine ra_ld hx hb hK hP 10 0 rfl rfl (by omega) (by decide) dX0_eliminate_54 ?_
    refine pa_callR (ci := 0) (n := 1) ⟨hx, hb, hml, hown, hts⟩ (m_inverse l (heq _)) hK hP rfl rfl (lw_V q90 q92 qs3 q18 q93) rfl rfl (by decide +kernel) ⟨by decide, by decide⟩ rfl hl.1 rfl (Nat.le_of_ble_eq_true rfl) dX0_eliminate_55 ⟨Nat.le_refl _, Nat.le_refl _⟩ ?_
    refine lv_istore_n (lv' := [(3, .int (nI (pf_inv (eq ((k * 12) + k))))), (0, .ref (a 0)), (1, .int (nI k)), (2, .int (nI k))]) hx hb dX0_eliminate_58 rfl hl (by decide) rfl (fun ls hl => ?_)
    refine lv_iconst (v := nI 0) hx hb dX0_eliminate_59 (by decide) ?_
    refine lv_istore (lv' := [(4, .int (nI 0)), (3, .int (nI (pf_inv (eq ((k * 12) + k))))), (0, .ref (a 0)), (1, .int (nI k)), (2, .int (nI k))]) hx hb dX0_eliminate_60 hl (by decide) rfl (fun ls hl => ?_)
    refine pa_lpm (nL := 7) (fun j (x : (Nat → Nat)) => x = pf_ea k (pf_inv (eq (k * 12 + k))) eq j) (fun j (x : (Nat → Nat)) => [(0, .ref (a 0)), (1, .int (nI k)), (3, .int (nI (pf_inv (eq ((k * 12) + k))))), (4, .int (nI j))]) (fun j (x : (Nat → Nat)) => WX a cI cZ pf_P pf_E da th ck rc re rt ms mb ur x) 0 (ms + 8) (by omega) (eq) rfl (lv_sub hl [2, 3, 1, 0] rfl) hP hS (fun j f H locs ls hge hhi hI hl hP hS ih => ?_) (fun f H locs ls hI hl hP hS => ?_)
    · skip
      have hI : f = pf_ea k (pf_inv (eq (k * 12 + k))) eq j := hI
      have hl : lv_has ls 7 [(0, .ref (a 0)), (1, .int (nI k)), (3, .int (nI (pf_inv (eq ((k * 12) + k))))), (4, .int (nI j))] := hl
      have hP : va_P D clA (WX a cI cZ pf_P pf_E da th ck rc re rt ms mb ur f) H := hP
      refine lv_iload hx hb dX0_eliminate_62 (lv_at hl 3 rfl) ?_
      refine lv_aload_n hx hb dX0_eliminate_64 rfl (lv_at hl 0 rfl) ?_
      refine x_get hx hb hts hown hK hP rfl 8 (by decide) q41 rfl rfl dX0_eliminate_65 ?_
      refine lv_bipush (v := nI 8) hx hb dX0_eliminate_68 (by decide) ?_
      refine na_add hx hb dX0_eliminate_70 ?_
      refine na_icmp_ge (tgt := 109) hx hb dX0_eliminate_71 (by decide) (by omega) (by omega) (fun hc9 => absurd hc9 (by omega)) (fun hc => ?_)
      refine lv_aload_n hx hb dX0_eliminate_74 rfl (lv_at hl 0 rfl) ?_
      refine x_get hx hb hts hown hK hP rfl 11 (by decide) q44 rfl rfl dX0_eliminate_75 ?_
      refine lv_iload_n hx hb dX0_eliminate_78 rfl (lv_at hl 1 rfl) ?_
      refine lv_bipush (v := nI 12) hx hb dX0_eliminate_79 (by decide) ?_
      refine na_mul hx hb dX0_eliminate_81 ?_
      refine lv_iload hx hb dX0_eliminate_82 (lv_at hl 3 rfl) ?_
      refine na_add hx hb dX0_eliminate_84 ?_
      refine lv_aload_n hx hb dX0_eliminate_85 rfl (lv_at hl 0 rfl) ?_
      refine lv_iload_n hx hb dX0_eliminate_86 rfl (lv_at hl 2 rfl) ?_
      refine lv_aload_n hx hb dX0_eliminate_87 rfl (lv_at hl 0 rfl) ?_
      refine x_get hx hb hts hown hK hP rfl 11 (by decide) q44 rfl rfl dX0_eliminate_88 ?_
      refine lv_iload_n hx hb dX0_eliminate_91 rfl (lv_at hl 1 rfl) ?_
      refine lv_bipush (v := nI 12) hx hb dX0_eliminate_92 (by decide) ?_
      refine na_mul hx hb dX0_eliminate_94 ?_
      refine lv_iload hx hb dX0_eliminate_95 (lv_at hl 3 rfl) ?_
      refine na_add hx hb dX0_eliminate_97 ?_
      refine ra_ld hx hb hK hP 10 0 rfl rfl (by omega) (by decide) dX0_eliminate_98 ?_
      refine pa_callR (ci := 0) (n := 2) ⟨hx, hb, hml, hown, hts⟩ (m_times l (pf_inv_lt _) (by rw [hI]; exact pf_ea_lt heq _ _)) hK hP rfl rfl (lw_V q94 q96 qs4 q18 q97) rfl rfl (by decide +kernel) ⟨by decide, by decide⟩ rfl hl.1 rfl (Nat.le_of_ble_eq_true rfl) dX0_eliminate_99 ⟨Nat.le_refl _, Nat.le_refl _⟩ ?_
      refine ra_st (ws' := WX a cI cZ pf_P pf_E da th ck rc re rt ms mb ur (pa_u f ((k * 12) + j) (pf_mul (pf_inv (eq ((k * 12) + k))) (f ((k * 12) + j))))) hx hb hK hP (WX_D hN) hS 10 0 rfl rfl (by omega) (by decide) dX0_eliminate_102 rfl (fun H locs hP hS => ?_)
      refine na_iinc (lv' := [(4, .int (nI (j + 1))), (0, .ref (a 0)), (1, .int (nI k)), (3, .int (nI (pf_inv (eq ((k * 12) + k)))))]) hx hb dX0_eliminate_103 hl (k := 3) rfl (by decide) rfl (fun ls hl => ?_)
      refine lv_goto (tgt := 62) hx hb dX0_eliminate_106 (by decide) ?_
      exact ih (pa_u f ((k * 12) + j) (pf_mul (pf_inv (eq ((k * 12) + k))) (f ((k * 12) + j)))) _ _ _ (by rw [hI]; rfl) (lv_sub hl [1, 2, 3, 0] rfl) hP hS
    · skip
      have hI : f = pf_ea k (pf_inv (eq (k * 12 + k))) eq (ms + 8) := hI
      have hl : lv_has ls 7 [(0, .ref (a 0)), (1, .int (nI k)), (3, .int (nI (pf_inv (eq ((k * 12) + k))))), (4, .int (nI (ms + 8)))] := hl
      have hP : va_P D clA (WX a cI cZ pf_P pf_E da th ck rc re rt ms mb ur f) H := hP
      refine lv_iload hx hb dX0_eliminate_62 (lv_at hl 3 rfl) ?_
      refine lv_aload_n hx hb dX0_eliminate_64 rfl (lv_at hl 0 rfl) ?_
      refine x_get hx hb hts hown hK hP rfl 8 (by decide) q41 rfl rfl dX0_eliminate_65 ?_
      refine lv_bipush (v := nI 8) hx hb dX0_eliminate_68 (by decide) ?_
      refine na_add hx hb dX0_eliminate_70 ?_
      refine na_icmp_ge (tgt := 109) hx hb dX0_eliminate_71 (by decide) (by omega) (by omega) (fun hc => ?_) (fun hc9 => absurd hc9 (by omega))
      refine lv_iconst (v := nI 0) hx hb dX0_eliminate_109 (by decide) ?_
      refine lv_istore (lv' := [(4, .int (nI 0)), (0, .ref (a 0)), (1, .int (nI k)), (3, .int (nI (pf_inv (eq ((k * 12) + k)))))]) hx hb dX0_eliminate_110 hl (by decide) rfl (fun ls hl => ?_)
      have hf : ∀ j, f j < 256 := by rw [hI]; exact pf_ea_lt heq _
      refine pa_lpm (nL := 7) (fun g (x : (Nat → Nat)) => x = pf_eg ms k f g) (fun g (x : (Nat → Nat)) => [(0, .ref (a 0)), (1, .int (nI k)), (4, .int (nI g))]) (fun g (x : (Nat → Nat)) => WX a cI cZ pf_P pf_E da th ck rc re rt ms mb ur x) 0 ms (by omega) (f) rfl (lv_sub hl [1, 2, 0] rfl) hP hS (fun g f2 H locs ls hge2 hhi2 hI2 hl hP hS ih2 => ?_) (fun f2 H locs ls hI2 hl hP hS => ?_)
      · skip
        have hI2 : f2 = pf_eg ms k f g := hI2
        have hl : lv_has ls 7 [(0, .ref (a 0)), (1, .int (nI k)), (4, .int (nI g))] := hl
        have hP : va_P D clA (WX a cI cZ pf_P pf_E da th ck rc re rt ms mb ur f2) H := hP
        have hf2 : ∀ j, f2 j < 256 := by rw [hI2]; exact pf_eg_lt hf _
        refine lv_iload hx hb dX0_eliminate_112 (lv_at hl 2 rfl) ?_
        refine lv_aload_n hx hb dX0_eliminate_114 rfl (lv_at hl 0 rfl) ?_
        refine x_get hx hb hts hown hK hP rfl 8 (by decide) q41 rfl rfl dX0_eliminate_115 ?_
        refine na_icmp_ge (tgt := 202) hx hb dX0_eliminate_118 (by decide) (by omega) (by omega) (fun hc9 => absurd hc9 (by omega)) (fun hc => ?_)
        refine lv_aload_n hx hb dX0_eliminate_121 rfl (lv_at hl 0 rfl) ?_
        refine x_get hx hb hts hown hK hP rfl 11 (by decide) q44 rfl rfl dX0_eliminate_122 ?_
        refine lv_iload hx hb dX0_eliminate_125 (lv_at hl 2 rfl) ?_
        refine lv_bipush (v := nI 12) hx hb dX0_eliminate_127 (by decide) ?_
        refine na_mul hx hb dX0_eliminate_129 ?_
        refine lv_iload_n hx hb dX0_eliminate_130 rfl (lv_at hl 1 rfl) ?_
        refine na_add hx hb dX0_eliminate_131 ?_
        refine ra_ld hx hb hK hP 10 0 rfl rfl (by omega) (by decide) dX0_eliminate_132 ?_
        refine lv_istore (lv' := [(5, .int (nI (f2 ((g * 12) + k)))), (0, .ref (a 0)), (1, .int (nI k)), (4, .int (nI g))]) hx hb dX0_eliminate_133 hl (by decide) rfl (fun ls hl => ?_)
        refine lv_iconst (v := nI 0) hx hb dX0_eliminate_135 (by decide) ?_
        refine lv_istore (lv' := [(6, .int (nI 0)), (5, .int (nI (f2 ((g * 12) + k)))), (0, .ref (a 0)), (1, .int (nI k)), (4, .int (nI g))]) hx hb dX0_eliminate_136 hl (by decide) rfl (fun ls hl => ?_)
        by_cases hg : g = k
        · skip
          refine lv_iload hx hb dX0_eliminate_138 (lv_at hl 0 rfl) ?_
          refine lv_aload_n hx hb dX0_eliminate_140 rfl (lv_at hl 2 rfl) ?_
          refine x_get hx hb hts hown hK hP rfl 8 (by decide) q41 rfl rfl dX0_eliminate_141 ?_
          refine lv_bipush (v := nI 8) hx hb dX0_eliminate_144 (by decide) ?_
          refine na_add hx hb dX0_eliminate_146 ?_
          refine na_icmp_ge (tgt := 196) hx hb dX0_eliminate_147 (by decide) (by omega) (by omega) (fun hc9 => absurd hc9 (by omega)) (fun hc => ?_)
          refine lv_iload hx hb dX0_eliminate_150 (lv_at hl 4 rfl) ?_
          refine lv_iload_n hx hb dX0_eliminate_152 rfl (lv_at hl 3 rfl) ?_
          refine na_icmp_eq (tgt := 196) hx hb dX0_eliminate_153 (by decide) (by omega) (by omega) (fun hc => ?_) (fun hc9 => absurd hc9 (by omega))
          refine na_iinc (lv' := [(4, .int (nI (g + 1))), (6, .int (nI 0)), (5, .int (nI (f2 ((g * 12) + k)))), (0, .ref (a 0)), (1, .int (nI k))]) hx hb dX0_eliminate_196 hl (k := 4) rfl (by decide) rfl (fun ls hl => ?_)
          refine lv_goto (tgt := 112) hx hb dX0_eliminate_199 (by decide) ?_
          exact ih2 (f2) _ _ _ (by rw [hI2]; exact (if_pos hg).symm) (lv_sub hl [3, 4, 0] rfl) hP hS
        · skip
          refine pa_lpm (nL := 7) (fun j (x : (Nat → Nat)) => x = pf_er k g (f2 (g * 12 + k)) f2 j) (fun j (x : (Nat → Nat)) => [(0, .ref (a 0)), (1, .int (nI k)), (4, .int (nI g)), (5, .int (nI (f2 ((g * 12) + k)))), (6, .int (nI j))]) (fun j (x : (Nat → Nat)) => WX a cI cZ pf_P pf_E da th ck rc re rt ms mb ur x) 0 (ms + 8) (by omega) (f2) rfl (lv_sub hl [2, 3, 4, 1, 0] rfl) hP hS (fun j f3 H locs ls hge3 hhi3 hI3 hl hP hS ih3 => ?_) (fun f3 H locs ls hI3 hl hP hS => ?_)
          · skip
            have hI3 : f3 = pf_er k g (f2 (g * 12 + k)) f2 j := hI3
            have hl : lv_has ls 7 [(0, .ref (a 0)), (1, .int (nI k)), (4, .int (nI g)), (5, .int (nI (f2 ((g * 12) + k)))), (6, .int (nI j))] := hl
            have hP : va_P D clA (WX a cI cZ pf_P pf_E da th ck rc re rt ms mb ur f3) H := hP
            refine lv_iload hx hb dX0_eliminate_138 (lv_at hl 4 rfl) ?_
            refine lv_aload_n hx hb dX0_eliminate_140 rfl (lv_at hl 0 rfl) ?_
            refine x_get hx hb hts hown hK hP rfl 8 (by decide) q41 rfl rfl dX0_eliminate_141 ?_
            refine lv_bipush (v := nI 8) hx hb dX0_eliminate_144 (by decide) ?_
            refine na_add hx hb dX0_eliminate_146 ?_
            refine na_icmp_ge (tgt := 196) hx hb dX0_eliminate_147 (by decide) (by omega) (by omega) (fun hc9 => absurd hc9 (by omega)) (fun hc => ?_)
            refine lv_iload hx hb dX0_eliminate_150 (lv_at hl 2 rfl) ?_
            refine lv_iload_n hx hb dX0_eliminate_152 rfl (lv_at hl 1 rfl) ?_
            refine na_icmp_eq (tgt := 196) hx hb dX0_eliminate_153 (by decide) (by omega) (by omega) (fun hc9 => absurd hc9 (by omega)) (fun hc => ?_)
            refine lv_aload_n hx hb dX0_eliminate_156 rfl (lv_at hl 0 rfl) ?_
            refine x_get hx hb hts hown hK hP rfl 11 (by decide) q44 rfl rfl dX0_eliminate_157 ?_
            refine lv_iload hx hb dX0_eliminate_160 (lv_at hl 2 rfl) ?_
            refine lv_bipush (v := nI 12) hx hb dX0_eliminate_162 (by decide) ?_
            refine na_mul hx hb dX0_eliminate_164 ?_
            refine lv_iload hx hb dX0_eliminate_165 (lv_at hl 4 rfl) ?_
            refine na_add hx hb dX0_eliminate_167 ?_
            refine lv_dup2_11 hx hb dX0_eliminate_168 rfl rfl ?_
            refine ra_ld hx hb hK hP 10 0 rfl rfl (by omega) (by decide) dX0_eliminate_169 ?_
            refine lv_aload_n hx hb dX0_eliminate_170 rfl (lv_at hl 0 rfl) ?_
            refine lv_iload hx hb dX0_eliminate_171 (lv_at hl 3 rfl) ?_
            refine lv_aload_n hx hb dX0_eliminate_173 rfl (lv_at hl 0 rfl) ?_
            refine x_get hx hb hts hown hK hP rfl 11 (by decide) q44 rfl rfl dX0_eliminate_174 ?_
            refine lv_iload_n hx hb dX0_eliminate_177 rfl (lv_at hl 1 rfl) ?_
            refine lv_bipush (v := nI 12) hx hb dX0_eliminate_178 (by decide) ?_
            refine na_mul hx hb dX0_eliminate_180 ?_
            refine lv_iload hx hb dX0_eliminate_181 (lv_at hl 4 rfl) ?_
            refine na_add hx hb dX0_eliminate_183 ?_
            refine ra_ld hx hb hK hP 10 0 rfl rfl (by omega) (by decide) dX0_eliminate_184 ?_
            refine pa_callR (ci := 0) (n := 2) ⟨hx, hb, hml, hown, hts⟩ (m_times l (hf2 _) (by rw [hI3]; exact pf_er_lt hf2 _ _)) hK hP rfl rfl (lw_V q94 q96 qs4 q18 q97) rfl rfl (by decide +kernel) ⟨by decide, by decide⟩ rfl hl.1 rfl (Nat.le_of_ble_eq_true rfl) dX0_eliminate_185 ⟨Nat.le_refl _, Nat.le_refl _⟩ ?_
            refine na_xor hx hb dX0_eliminate_188 ?_
            refine ra_st (ws' := WX a cI cZ pf_P pf_E da th ck rc re rt ms mb ur (pa_u f3 ((g * 12) + j) ((f3 ((g * 12) + j)) ^^^ (pf_mul (f2 ((g * 12) + k)) (f3 ((k * 12) + j)))))) hx hb hK hP (WX_D hN) hS 10 0 rfl rfl (by omega) (by decide) dX0_eliminate_189 rfl (fun H locs hP hS => ?_)
            refine na_iinc (lv' := [(6, .int (nI (j + 1))), (0, .ref (a 0)), (1, .int (nI k)), (4, .int (nI g)), (5, .int (nI (f2 ((g * 12) + k))))]) hx hb dX0_eliminate_190 hl (k := 4) rfl (by decide) rfl (fun ls hl => ?_)
            refine lv_goto (tgt := 138) hx hb dX0_eliminate_193 (by decide) ?_
            exact ih3 (pa_u f3 ((g * 12) + j) ((f3 ((g * 12) + j)) ^^^ (pf_mul (f2 ((g * 12) + k)) (f3 ((k * 12) + j))))) _ _ _ (by rw [hI3]; rfl) (lv_sub hl [1, 2, 3, 4, 0] rfl) hP hS
          · skip
            have hI3 : f3 = pf_er k g (f2 (g * 12 + k)) f2 (ms + 8) := hI3
            have hl : lv_has ls 7 [(0, .ref (a 0)), (1, .int (nI k)), (4, .int (nI g)), (5, .int (nI (f2 ((g * 12) + k)))), (6, .int (nI (ms + 8)))] := hl
            have hP : va_P D clA (WX a cI cZ pf_P pf_E da th ck rc re rt ms mb ur f3) H := hP
            refine lv_iload hx hb dX0_eliminate_138 (lv_at hl 4 rfl) ?_
            refine lv_aload_n hx hb dX0_eliminate_140 rfl (lv_at hl 0 rfl) ?_
            refine x_get hx hb hts hown hK hP rfl 8 (by decide) q41 rfl rfl dX0_eliminate_141 ?_
            refine lv_bipush (v := nI 8) hx hb dX0_eliminate_144 (by decide) ?_
            refine na_add hx hb dX0_eliminate_146 ?_
            refine na_icmp_ge (tgt := 196) hx hb dX0_eliminate_147 (by decide) (by omega) (by omega) (fun hc => ?_) (fun hc9 => absurd hc9 (by omega))
            refine na_iinc (lv' := [(4, .int (nI (g + 1))), (0, .ref (a 0)), (1, .int (nI k)), (5, .int (nI (f2 ((g * 12) + k)))), (6, .int (nI (ms + 8)))]) hx hb dX0_eliminate_196 hl (k := 2) rfl (by decide) rfl (fun ls hl => ?_)
            refine lv_goto (tgt := 112) hx hb dX0_eliminate_199 (by decide) ?_
            exact ih2 (f3) _ _ _ (by rw [hI3, hI2]; exact (if_neg hg).symm) (lv_sub hl [1, 2, 0] rfl) hP hS
      · skip
        have hI2 : f2 = pf_eg ms k f ms := hI2
        have hl : lv_has ls 7 [(0, .ref (a 0)), (1, .int (nI k)), (4, .int (nI ms))] := hl
        have hP : va_P D clA (WX a cI cZ pf_P pf_E da th ck rc re rt ms mb ur f2) H := hP
        refine lv_iload hx hb dX0_eliminate_112 (lv_at hl 2 rfl) ?_
        refine lv_aload_n hx hb dX0_eliminate_114 rfl (lv_at hl 0 rfl) ?_
        refine x_get hx hb hts hown hK hP rfl 8 (by decide) q41 rfl rfl dX0_eliminate_115 ?_
        refine na_icmp_ge (tgt := 202) hx hb dX0_eliminate_118 (by decide) (by omega) (by omega) (fun hc => ?_) (fun hc9 => absurd hc9 (by omega))
        exact pa_vretM hx hb hr hlk (by rw [hI2, hI] at hP; exact hP) hS dX0_eliminate_202
  refine lv_iload_n hx hb dX0_eliminate_0 rfl (lv_at hl 1 rfl) ?_
  refine lv_istore_n (lv' := [(2, .int (nI k)), (0, .ref (a 0)), (1, .int (nI k))]) hx hb dX0_eliminate_1 rfl hl (by decide) rfl (fun ls hl => ?_)
  refine lv_iload_n hx hb dX0_eliminate_2 rfl (lv_at hl 0 rfl) ?_
  refine lv_aload_n hx hb dX0_eliminate_3 rfl (lv_at hl 1 rfl) ?_
  refine x_get hx hb hts hown hK hP rfl 8 (by decide) q41 rfl rfl dX0_eliminate_4 ?_
  refine lv_iconst (v := nI 1) hx hb dX0_eliminate_7 (by decide) ?_
  refine na_sub hx hb dX0_eliminate_8 (by omega) ?_
  refine na_icmp_ge (tgt := 32) hx hb dX0_eliminate_9 (by decide) (by omega) (by omega) (fun hc => ?_) (fun hc => ?_)
  · skip
    exact hrest _ _ _ trivial  (lv_sub hl [1, 2, 0] rfl) hP hS
  have he1 := heq (k * 12 + k)
  · skip
    have he1 := heq (k * 12 + k)
    refine lv_aload_n hx hb dX0_eliminate_12 rfl (lv_at hl 1 rfl) ?_
    refine x_get hx hb hts hown hK hP rfl 11 (by decide) q44 rfl rfl dX0_eliminate_13 ?_
    refine lv_iload_n hx hb dX0_eliminate_16 rfl (lv_at hl 0 rfl) ?_
    refine lv_bipush (v := nI 12) hx hb dX0_eliminate_17 (by decide) ?_
    refine na_mul hx hb dX0_eliminate_19 ?_
    refine lv_iload_n hx hb dX0_eliminate_20 rfl (lv_at hl 2 rfl) ?_
    refine na_add hx hb dX0_eliminate_21 ?_
    refine ra_ld hx hb hK hP 10 0 rfl rfl (by omega) (by decide) dX0_eliminate_22 ?_
    refine na_if_ne (tgt := 32) hx hb dX0_eliminate_23 (by decide) (by omega) (fun hc => ?_) (fun hc9 => absurd hc9 (by omega))
    exact hrest _ _ _ trivial  (lv_sub hl [1, 2, 0] rfl) hP hS
set_option maxHeartbeats 4000000 in
theorem m_putBack (l : Launch) {D : va_G} {a : Nat → Nat} {cI cZ : ClassId} {da th : Nat → Nat} {ck : Nat → Int32} {rc : Nat} {re rt : Nat → Nat} {ms : Nat} {mb ur eq : Nat → Nat} {j : Nat} (hN : pa_N 11 a) (hms : ms ≤ 4) (hmb : ∀ j, mb j < 6) (hj1 : j < ms) : Met l yX0_putBack (ws_ yX0_putBack cX0_putBack 4 none) (pa_rm 1 23) (PcX D clA [(cI, .int), (cZ, .boolean)] [.ref (a 0), .int (nI j)] (WX a cI cZ pf_P pf_E da th ck rc re rt ms mb ur eq)) (QcXv D clA (WX a cI cZ pf_P pf_E (pf_pb da (mb j) (fun z => eq (j * 12 + ms + z)) 8) (pa_u th (mb j) 1) (upd ck (mb j) (pf_sum (pf_pb da (mb j) (fun z => eq (j * 12 + ms + z)) 8) (mb j) 8)) rc re rt ms mb ur eq) (pa_A 11 a)) 0 0 (pa_A 11 a) := by
  refine pa_enter (by decide) (Nat.le_of_ble_eq_true rfl) (fun p e s m below meth c ls hx hb hr hlk hml hown hin hts hP hK hl => ?_)
  have hown : s.vm.findClass RX0 = some m.cls := hown
  have hl : lv_has ls 4 [(0, .ref (a 0)), (1, .int (nI j))] := hl
  have hS : va_S (pa_A 11 a) s.heap s.heap [] := va_S.rf
  have hmbj := hmb j
  refine lv_aload_n hx hb dX0_putBack_0 rfl (lv_at hl 0 rfl) ?_
  refine x_get hx hb hts hown hK hP rfl 9 (by decide) q42 rfl rfl dX0_putBack_1 ?_
  refine lv_iload_n hx hb dX0_putBack_4 rfl (lv_at hl 1 rfl) ?_
  refine ra_ld hx hb hK hP 8 0 rfl rfl (by omega) (by decide) dX0_putBack_5 ?_
  refine lv_istore_n (lv' := [(2, .int (nI (mb j))), (0, .ref (a 0)), (1, .int (nI j))]) hx hb dX0_putBack_6 rfl hl (by decide) rfl (fun ls hl => ?_)
  refine lv_iconst (v := nI 0) hx hb dX0_putBack_7 (by decide) ?_
  refine lv_istore_n (lv' := [(3, .int (nI 0)), (2, .int (nI (mb j))), (0, .ref (a 0)), (1, .int (nI j))]) hx hb dX0_putBack_8 rfl hl (by decide) rfl (fun ls hl => ?_)
  refine pa_lpm (nL := 4) (fun i (x : (Nat → Nat)) => x = pf_pb da (mb j) (fun z => eq (j * 12 + ms + z)) i) (fun i (x : (Nat → Nat)) => [(0, .ref (a 0)), (1, .int (nI j)), (2, .int (nI (mb j))), (3, .int (nI i))]) (fun i (x : (Nat → Nat)) => WX a cI cZ pf_P pf_E x th ck rc re rt ms mb ur eq) 0 8 (by omega) (da) rfl (lv_sub hl [2, 3, 1, 0] rfl) hP hS (fun i f H locs ls hge hhi hI hl hP hS ih => ?_) (fun f H locs ls hI hl hP hS => ?_)
  · skip
    have hI : f = pf_pb da (mb j) (fun z => eq (j * 12 + ms + z)) i := hI
    have hl : lv_has ls 4 [(0, .ref (a 0)), (1, .int (nI j)), (2, .int (nI (mb j))), (3, .int (nI i))] := hl
    have hP : va_P D clA (WX a cI cZ pf_P pf_E f th ck rc re rt ms mb ur eq) H := hP
    refine lv_iload_n hx hb dX0_putBack_9 rfl (lv_at hl 3 rfl) ?_
    refine lv_bipush (v := nI 8) hx hb dX0_putBack_10 (by decide) ?_
    refine na_icmp_ge (tgt := 48) hx hb dX0_putBack_12 (by decide) (by omega) (by omega) (fun hc9 => absurd hc9 (by omega)) (fun hc => ?_)
    refine lv_aload_n hx hb dX0_putBack_15 rfl (lv_at hl 0 rfl) ?_
    refine x_get hx hb hts hown hK hP rfl 2 (by decide) q35 rfl rfl dX0_putBack_16 ?_
    refine lv_iload_n hx hb dX0_putBack_19 rfl (lv_at hl 2 rfl) ?_
    refine lv_bipush (v := nI 8) hx hb dX0_putBack_20 (by decide) ?_
    refine na_mul hx hb dX0_putBack_22 ?_
    refine lv_iload_n hx hb dX0_putBack_23 rfl (lv_at hl 3 rfl) ?_
    refine na_add hx hb dX0_putBack_24 ?_
    refine lv_aload_n hx hb dX0_putBack_25 rfl (lv_at hl 0 rfl) ?_
    refine x_get hx hb hts hown hK hP rfl 11 (by decide) q44 rfl rfl dX0_putBack_26 ?_
    refine lv_iload_n hx hb dX0_putBack_29 rfl (lv_at hl 1 rfl) ?_
    refine lv_bipush (v := nI 12) hx hb dX0_putBack_30 (by decide) ?_
    refine na_mul hx hb dX0_putBack_32 ?_
    refine lv_aload_n hx hb dX0_putBack_33 rfl (lv_at hl 0 rfl) ?_
    refine x_get hx hb hts hown hK hP rfl 8 (by decide) q41 rfl rfl dX0_putBack_34 ?_
    refine na_add hx hb dX0_putBack_37 ?_
    refine lv_iload_n hx hb dX0_putBack_38 rfl (lv_at hl 3 rfl) ?_
    refine na_add hx hb dX0_putBack_39 ?_
    refine ra_ld hx hb hK hP 10 0 rfl rfl (by omega) (by decide) dX0_putBack_40 ?_
    refine ra_st (ws' := WX a cI cZ pf_P pf_E (pa_u f (((mb j) * 8) + i) (eq (((j * 12) + ms) + i))) th ck rc re rt ms mb ur eq) hx hb hK hP (WX_D hN) hS 3 0 rfl rfl (by omega) (by decide) dX0_putBack_41 rfl (fun H locs hP hS => ?_)
    refine na_iinc (lv' := [(3, .int (nI (i + 1))), (0, .ref (a 0)), (1, .int (nI j)), (2, .int (nI (mb j)))]) hx hb dX0_putBack_42 hl (k := 3) rfl (by decide) rfl (fun ls hl => ?_)
    refine lv_goto (tgt := 9) hx hb dX0_putBack_45 (by decide) ?_
    exact ih (pa_u f (((mb j) * 8) + i) (eq (((j * 12) + ms) + i))) _ _ _ (by rw [hI]; rfl) (lv_sub hl [1, 2, 3, 0] rfl) hP hS
  · skip
    have hI : f = pf_pb da (mb j) (fun z => eq (j * 12 + ms + z)) 8 := hI
    have hl : lv_has ls 4 [(0, .ref (a 0)), (1, .int (nI j)), (2, .int (nI (mb j))), (3, .int (nI 8))] := hl
    have hP : va_P D clA (WX a cI cZ pf_P pf_E f th ck rc re rt ms mb ur eq) H := hP
    refine lv_iload_n hx hb dX0_putBack_9 rfl (lv_at hl 3 rfl) ?_
    refine lv_bipush (v := nI 8) hx hb dX0_putBack_10 (by decide) ?_
    refine na_icmp_ge (tgt := 48) hx hb dX0_putBack_12 (by decide) (by omega) (by omega) (fun hc => ?_) (fun hc9 => absurd hc9 (by omega))
    refine lv_aload_n hx hb dX0_putBack_48 rfl (lv_at hl 0 rfl) ?_
    refine x_get hx hb hts hown hK hP rfl 3 (by decide) q36 rfl rfl dX0_putBack_49 ?_
    refine lv_iload_n hx hb dX0_putBack_52 rfl (lv_at hl 2 rfl) ?_
    refine lv_iconst (v := nI 1) hx hb dX0_putBack_53 (by decide) ?_
    refine rz_st (ws' := WX a cI cZ pf_P pf_E f (pa_u th (mb j) 1) ck rc re rt ms mb ur eq) hx hb hK hP (WX_D hN) hS 4 1 rfl rfl (by omega) (by decide) (by decide) dX0_putBack_54 rfl (fun H locs hP hS => ?_)
    refine lv_aload_n hx hb dX0_putBack_55 rfl (lv_at hl 0 rfl) ?_
    refine x_get hx hb hts hown hK hP rfl 4 (by decide) q37 rfl rfl dX0_putBack_56 ?_
    refine lv_iload_n hx hb dX0_putBack_59 rfl (lv_at hl 2 rfl) ?_
    refine lv_aload_n hx hb dX0_putBack_60 rfl (lv_at hl 0 rfl) ?_
    refine lv_iload_n hx hb dX0_putBack_61 rfl (lv_at hl 2 rfl) ?_
    refine pa_callR (ci := 0) (n := 1) ⟨hx, hb, hml, hown, hts⟩ (m_checkOf l (by omega)) hK hP rfl rfl (lw_V q28 q30 qs0 q18 q31) rfl rfl (by decide +kernel) ⟨by decide, by decide⟩ rfl hl.1 rfl (Nat.le_of_ble_eq_true rfl) dX0_putBack_62 ⟨Nat.le_refl _, Nat.le_refl _⟩ ?_
    refine rk_st (ws' := WX a cI cZ pf_P pf_E f (pa_u th (mb j) 1) (upd ck (mb j) (pf_sum f (mb j) 8)) rc re rt ms mb ur eq) hx hb hK hP (WX_D hN) hS 5 0 rfl rfl (by omega) (by decide) dX0_putBack_65 rfl (fun H locs hP hS => ?_)
    exact pa_vretM hx hb hr hlk (by rw [hI] at hP; exact hP) hS dX0_putBack_66
end
section
set_option maxRecDepth 100000
set_option maxHeartbeats 4000000 in
theorem m_write_1 (l : Launch) {D : va_G} {a : Nat → Nat} {cI cZ : ClassId} {da th : Nat → Nat} {ck : Nat → Int32} {rc : Nat} {re rt : Nat → Nat} {ms : Nat} {mb ur eq : Nat → Nat}  {bk pl vl : Int32} (hN : pa_N 11 a) (h : bk < 0 ∨ nI 6 ≤ bk) : Met l yX0_write (ws_ yX0_write cX0_write 9 (some .int)) (pa_rm 2 45) (PcX D clA [(cI, .int), (cZ, .boolean)] [.ref (a 0), .int bk, .int pl, .int vl] (WX a cI cZ pf_P pf_E da th ck rc re rt ms mb ur eq)) (QcXi (-1) D clA (WX a cI cZ pf_P pf_E da th ck rc re rt ms mb ur eq) (pa_A 11 a)) 0 0 (pa_A 11 a) := by
  refine pa_enter (by decide) (Nat.le_of_ble_eq_true rfl) (fun p e s m below meth c ls hx hb hr hlk hml hown hin hts hP hK hl => ?_)
  have hown : s.vm.findClass RX0 = some m.cls := hown
  have hl : lv_has ls 9 [(0, .ref (a 0)), (1, .int bk), (2, .int pl), (3, .int vl)] := hl
  have hS : va_S (pa_A 11 a) s.heap s.heap [] := va_S.rf
  refine lv_iload_n hx hb dX0_write_0 rfl (lv_at hl 1 rfl) ?_
  refine pa_callS (n := 1) ⟨hx, hb, hml, hown, hts⟩ (m_badBlock l (r := nI 1) (Or.inl ⟨rfl, h⟩)) (lw_S q76 q77 q18 q78) rfl rfl (by decide +kernel) ⟨by decide, by decide⟩ rfl hl.1 rfl (Nat.le_of_ble_eq_true rfl) dX0_write_1 ⟨Nat.le_refl _, Nat.le_refl _⟩ ?_
  refine na_if_eq (tgt := 9) hx hb dX0_write_4 (by decide) (by omega) (fun hc9 => absurd hc9 (by omega)) (fun hc => ?_)
  refine lv_iconst (v := (-1)) hx hb dX0_write_7 (by decide) ?_
  exact pa_iretM hx hb hr hlk rfl hP hS dX0_write_8
set_option maxHeartbeats 4000000 in
theorem m_write_2 (l : Launch) {D : va_G} {a : Nat → Nat} {cI cZ : ClassId} {da th : Nat → Nat} {ck : Nat → Int32} {rc : Nat} {re rt : Nat → Nat} {ms : Nat} {mb ur eq : Nat → Nat} {b : Nat} {pl vl : Int32} (hN : pa_N 11 a) (hb1 : b < 6) (h : pl < 0 ∨ nI 8 ≤ pl) : Met l yX0_write (ws_ yX0_write cX0_write 9 (some .int)) (pa_rm 2 45) (PcX D clA [(cI, .int), (cZ, .boolean)] [.ref (a 0), .int (nI b), .int pl, .int vl] (WX a cI cZ pf_P pf_E da th ck rc re rt ms mb ur eq)) (QcXi (-2) D clA (WX a cI cZ pf_P pf_E da th ck rc re rt ms mb ur eq) (pa_A 11 a)) 0 0 (pa_A 11 a) := by
  refine pa_enter (by decide) (Nat.le_of_ble_eq_true rfl) (fun p e s m below meth c ls hx hb hr hlk hml hown hin hts hP hK hl => ?_)
  have hown : s.vm.findClass RX0 = some m.cls := hown
  have hl : lv_has ls 9 [(0, .ref (a 0)), (1, .int (nI b)), (2, .int pl), (3, .int vl)] := hl
  have hS : va_S (pa_A 11 a) s.heap s.heap [] := va_S.rf
  refine lv_iload_n hx hb dX0_write_0 rfl (lv_at hl 1 rfl) ?_
  refine pa_callS (n := 1) ⟨hx, hb, hml, hown, hts⟩ (m_badBlock l (r := nI 0) (Or.inr ⟨rfl, _, hb1, rfl⟩)) (lw_S q76 q77 q18 q78) rfl rfl (by decide +kernel) ⟨by decide, by decide⟩ rfl hl.1 rfl (Nat.le_of_ble_eq_true rfl) dX0_write_1 ⟨Nat.le_refl _, Nat.le_refl _⟩ ?_
  refine na_if_eq (tgt := 9) hx hb dX0_write_4 (by decide) (by omega) (fun hc => ?_) (fun hc9 => absurd hc9 (by omega))
  refine lv_iload_n hx hb dX0_write_9 rfl (lv_at hl 2 rfl) ?_
  refine pa_callS (n := 1) ⟨hx, hb, hml, hown, hts⟩ (m_badPlace l (r := nI 1) (Or.inl ⟨rfl, h⟩)) (lw_S q79 q80 q18 q81) rfl rfl (by decide +kernel) ⟨by decide, by decide⟩ rfl hl.1 rfl (Nat.le_of_ble_eq_true rfl) dX0_write_10 ⟨Nat.le_refl _, Nat.le_refl _⟩ ?_
  refine na_if_eq (tgt := 19) hx hb dX0_write_13 (by decide) (by omega) (fun hc9 => absurd hc9 (by omega)) (fun hc => ?_)
  refine lv_bipush (v := (-2)) hx hb dX0_write_16 (by decide) ?_
  exact pa_iretM hx hb hr hlk rfl hP hS dX0_write_18
set_option maxHeartbeats 4000000 in
theorem m_write_3 (l : Launch) {D : va_G} {a : Nat → Nat} {cI cZ : ClassId} {da th : Nat → Nat} {ck : Nat → Int32} {rc : Nat} {re rt : Nat → Nat} {ms : Nat} {mb ur eq : Nat → Nat} {b i : Nat} {vl : Int32} (hN : pa_N 11 a) (hb1 : b < 6) (hi1 : i < 8) (h : vl < 0 ∨ nI 256 ≤ vl) : Met l yX0_write (ws_ yX0_write cX0_write 9 (some .int)) (pa_rm 2 45) (PcX D clA [(cI, .int), (cZ, .boolean)] [.ref (a 0), .int (nI b), .int (nI i), .int vl] (WX a cI cZ pf_P pf_E da th ck rc re rt ms mb ur eq)) (QcXi (-3) D clA (WX a cI cZ pf_P pf_E da th ck rc re rt ms mb ur eq) (pa_A 11 a)) 0 0 (pa_A 11 a) := by
  refine pa_enter (by decide) (Nat.le_of_ble_eq_true rfl) (fun p e s m below meth c ls hx hb hr hlk hml hown hin hts hP hK hl => ?_)
  have hown : s.vm.findClass RX0 = some m.cls := hown
  have hl : lv_has ls 9 [(0, .ref (a 0)), (1, .int (nI b)), (2, .int (nI i)), (3, .int vl)] := hl
  have hS : va_S (pa_A 11 a) s.heap s.heap [] := va_S.rf
  rcases h with h | h
  · skip
    refine lv_iload_n hx hb dX0_write_0 rfl (lv_at hl 1 rfl) ?_
    refine pa_callS (n := 1) ⟨hx, hb, hml, hown, hts⟩ (m_badBlock l (r := nI 0) (Or.inr ⟨rfl, _, hb1, rfl⟩)) (lw_S q76 q77 q18 q78) rfl rfl (by decide +kernel) ⟨by decide, by decide⟩ rfl hl.1 rfl (Nat.le_of_ble_eq_true rfl) dX0_write_1 ⟨Nat.le_refl _, Nat.le_refl _⟩ ?_
    refine na_if_eq (tgt := 9) hx hb dX0_write_4 (by decide) (by omega) (fun hc => ?_) (fun hc9 => absurd hc9 (by omega))
    refine lv_iload_n hx hb dX0_write_9 rfl (lv_at hl 2 rfl) ?_
    refine pa_callS (n := 1) ⟨hx, hb, hml, hown, hts⟩ (m_badPlace l (r := nI 0) (Or.inr ⟨rfl, _, hi1, rfl⟩)) (lw_S q79 q80 q18 q81) rfl rfl (by decide +kernel) ⟨by decide, by decide⟩ rfl hl.1 rfl (Nat.le_of_ble_eq_true rfl) dX0_write_10 ⟨Nat.le_refl _, Nat.le_refl _⟩ ?_
    refine na_if_eq (tgt := 19) hx hb dX0_write_13 (by decide) (by omega) (fun hc => ?_) (fun hc9 => absurd hc9 (by omega))
    refine lv_iload_n hx hb dX0_write_19 rfl (lv_at hl 3 rfl) ?_
    refine lv_if_lt (tgt := 30) hx hb dX0_write_20 (by decide) (fun hc => ?_) (fun hc9 => absurd hc9 (fun q => q h))
    refine lv_bipush (v := (-3)) hx hb dX0_write_30 (by decide) ?_
    exact pa_iretM hx hb hr hlk rfl hP hS dX0_write_32
  · skip
    refine lv_iload_n hx hb dX0_write_0 rfl (lv_at hl 1 rfl) ?_
    refine pa_callS (n := 1) ⟨hx, hb, hml, hown, hts⟩ (m_badBlock l (r := nI 0) (Or.inr ⟨rfl, _, hb1, rfl⟩)) (lw_S q76 q77 q18 q78) rfl rfl (by decide +kernel) ⟨by decide, by decide⟩ rfl hl.1 rfl (Nat.le_of_ble_eq_true rfl) dX0_write_1 ⟨Nat.le_refl _, Nat.le_refl _⟩ ?_
    refine na_if_eq (tgt := 9) hx hb dX0_write_4 (by decide) (by omega) (fun hc => ?_) (fun hc9 => absurd hc9 (by omega))
    refine lv_iload_n hx hb dX0_write_9 rfl (lv_at hl 2 rfl) ?_
    refine pa_callS (n := 1) ⟨hx, hb, hml, hown, hts⟩ (m_badPlace l (r := nI 0) (Or.inr ⟨rfl, _, hi1, rfl⟩)) (lw_S q79 q80 q18 q81) rfl rfl (by decide +kernel) ⟨by decide, by decide⟩ rfl hl.1 rfl (Nat.le_of_ble_eq_true rfl) dX0_write_10 ⟨Nat.le_refl _, Nat.le_refl _⟩ ?_
    refine na_if_eq (tgt := 19) hx hb dX0_write_13 (by decide) (by omega) (fun hc => ?_) (fun hc9 => absurd hc9 (by omega))
    refine lv_iload_n hx hb dX0_write_19 rfl (lv_at hl 3 rfl) ?_
    refine lv_if_lt (tgt := 30) hx hb dX0_write_20 (by decide) (fun hc9 => absurd hc9 (fun q => absurd (Int32.lt_of_le_of_lt h q) (by decide))) (fun hc => ?_)
    refine lv_iload_n hx hb dX0_write_23 rfl (lv_at hl 3 rfl) ?_
    refine lv_sipush (v := nI 255) hx hb dX0_write_24 (by decide) ?_
    refine lv_icmp_le (tgt := 33) hx hb dX0_write_27 (by decide) (fun hc9 => absurd hc9 (fun q => absurd (Int32.le_trans h q) (by decide))) (fun hc => ?_)
    refine lv_bipush (v := (-3)) hx hb dX0_write_30 (by decide) ?_
    exact pa_iretM hx hb hr hlk rfl hP hS dX0_write_32
set_option maxHeartbeats 4000000 in
theorem m_write_4 (l : Launch) {D : va_G} {a : Nat → Nat} {cI cZ : ClassId} {da th : Nat → Nat} {ck : Nat → Int32} {rc : Nat} {re rt : Nat → Nat} {ms : Nat} {mb ur eq : Nat → Nat} {b i v : Nat}  (hN : pa_N 11 a) (hth : ∀ j, th j < 2) (hb1 : b < 6) (hi1 : i < 8) (hv1 : v < 256) (h : pf_st da th ck b ≠ 0) : Met l yX0_write (ws_ yX0_write cX0_write 9 (some .int)) (pa_rm 2 45) (PcX D clA [(cI, .int), (cZ, .boolean)] [.ref (a 0), .int (nI b), .int (nI i), .int (nI v)] (WX a cI cZ pf_P pf_E da th ck rc re rt ms mb ur eq)) (QcXi (-4) D clA (WX a cI cZ pf_P pf_E da th ck rc re rt ms mb ur eq) (pa_A 11 a)) 0 0 (pa_A 11 a) := by
  refine pa_enter (by decide) (Nat.le_of_ble_eq_true rfl) (fun p e s m below meth c ls hx hb hr hlk hml hown hin hts hP hK hl => ?_)
  have hown : s.vm.findClass RX0 = some m.cls := hown
  have hl : lv_has ls 9 [(0, .ref (a 0)), (1, .int (nI b)), (2, .int (nI i)), (3, .int (nI v))] := hl
  have hS : va_S (pa_A 11 a) s.heap s.heap [] := va_S.rf
  have hs := pf_st_lt da th ck b
  refine lv_iload_n hx hb dX0_write_0 rfl (lv_at hl 1 rfl) ?_
  refine pa_callS (n := 1) ⟨hx, hb, hml, hown, hts⟩ (m_badBlock l (r := nI 0) (Or.inr ⟨rfl, _, hb1, rfl⟩)) (lw_S q76 q77 q18 q78) rfl rfl (by decide +kernel) ⟨by decide, by decide⟩ rfl hl.1 rfl (Nat.le_of_ble_eq_true rfl) dX0_write_1 ⟨Nat.le_refl _, Nat.le_refl _⟩ ?_
  refine na_if_eq (tgt := 9) hx hb dX0_write_4 (by decide) (by omega) (fun hc => ?_) (fun hc9 => absurd hc9 (by omega))
  refine lv_iload_n hx hb dX0_write_9 rfl (lv_at hl 2 rfl) ?_
  refine pa_callS (n := 1) ⟨hx, hb, hml, hown, hts⟩ (m_badPlace l (r := nI 0) (Or.inr ⟨rfl, _, hi1, rfl⟩)) (lw_S q79 q80 q18 q81) rfl rfl (by decide +kernel) ⟨by decide, by decide⟩ rfl hl.1 rfl (Nat.le_of_ble_eq_true rfl) dX0_write_10 ⟨Nat.le_refl _, Nat.le_refl _⟩ ?_
  refine na_if_eq (tgt := 19) hx hb dX0_write_13 (by decide) (by omega) (fun hc => ?_) (fun hc9 => absurd hc9 (by omega))
  refine lv_iload_n hx hb dX0_write_19 rfl (lv_at hl 3 rfl) ?_
  refine na_if_lt (tgt := 30) hx hb dX0_write_20 (by decide) (by omega) ?_
  refine lv_iload_n hx hb dX0_write_23 rfl (lv_at hl 3 rfl) ?_
  refine lv_sipush (v := nI 255) hx hb dX0_write_24 (by decide) ?_
  refine na_icmp_le (tgt := 33) hx hb dX0_write_27 (by decide) (by omega) (by omega) (fun hc => ?_) (fun hc9 => absurd hc9 (by omega))
  refine lv_aload_n hx hb dX0_write_33 rfl (lv_at hl 0 rfl) ?_
  refine lv_iload_n hx hb dX0_write_34 rfl (lv_at hl 1 rfl) ?_
  refine pa_callR (ci := 0) (n := 1) ⟨hx, hb, hml, hown, hts⟩ (m_stateOf l hth (by omega)) hK hP rfl rfl (lw_V q82 q84 qs1 q18 q85) rfl rfl (by decide +kernel) ⟨by decide, by decide⟩ rfl hl.1 rfl (Nat.le_of_ble_eq_true rfl) dX0_write_35 ⟨Nat.le_refl _, Nat.le_refl _⟩ ?_
  refine lv_istore (lv' := [(4, .int (nI (pf_st da th ck b))), (0, .ref (a 0)), (1, .int (nI b)), (2, .int (nI i)), (3, .int (nI v))]) hx hb dX0_write_38 hl (by decide) rfl (fun ls hl => ?_)
  refine lv_iload hx hb dX0_write_40 (lv_at hl 0 rfl) ?_
  refine na_if_eq (tgt := 48) hx hb dX0_write_42 (by decide) (by omega) (fun hc9 => absurd hc9 (by omega)) (fun hc => ?_)
  refine lv_bipush (v := (-4)) hx hb dX0_write_45 (by decide) ?_
  exact pa_iretM hx hb hr hlk rfl hP hS dX0_write_47
set_option maxHeartbeats 4000000 in
theorem m_write_5 (l : Launch) {D : va_G} {a : Nat → Nat} {cI cZ : ClassId} {da th : Nat → Nat} {ck : Nat → Int32} {rc : Nat} {re rt : Nat → Nat} {ms : Nat} {mb ur eq : Nat → Nat} {b i v : Nat}  (hN : pa_N 11 a) (hda : ∀ j, da j < 256) (hth : ∀ j, th j < 2) (hre : ∀ j, re j < 256) (hrc : rc ≤ 4) (hb1 : b < 6) (hi1 : i < 8) (hv1 : v < 256) (h : pf_st da th ck b = 0) : Met l yX0_write (ws_ yX0_write cX0_write 9 (some .int)) (pa_rm 2 45) (PcX D clA [(cI, .int), (cZ, .boolean)] [.ref (a 0), .int (nI b), .int (nI i), .int (nI v)] (WX a cI cZ pf_P pf_E da th ck rc re rt ms mb ur eq)) (QcXi (nI (da (b * 8 + i))) D clA (WX a cI cZ pf_P pf_E (pa_u da (b * 8 + i) v) th (upd ck b (pf_sum (pa_u da (b * 8 + i) v) b 8)) rc (pf_wr re b i (da (b * 8 + i) ^^^ v) rc) rt ms mb ur eq) (pa_A 11 a)) 0 0 (pa_A 11 a) := by
  refine pa_enter (by decide) (Nat.le_of_ble_eq_true rfl) (fun p e s m below meth c ls hx hb hr hlk hml hown hin hts hP hK hl => ?_)
  have hown : s.vm.findClass RX0 = some m.cls := hown
  have hl : lv_has ls 9 [(0, .ref (a 0)), (1, .int (nI b)), (2, .int (nI i)), (3, .int (nI v))] := hl
  have hS : va_S (pa_A 11 a) s.heap s.heap [] := va_S.rf
  refine lv_iload_n hx hb dX0_write_0 rfl (lv_at hl 1 rfl) ?_
  refine pa_callS (n := 1) ⟨hx, hb, hml, hown, hts⟩ (m_badBlock l (r := nI 0) (Or.inr ⟨rfl, _, hb1, rfl⟩)) (lw_S q76 q77 q18 q78) rfl rfl (by decide +kernel) ⟨by decide, by decide⟩ rfl hl.1 rfl (Nat.le_of_ble_eq_true rfl) dX0_write_1 ⟨Nat.le_refl _, Nat.le_refl _⟩ ?_
  refine na_if_eq (tgt := 9) hx hb dX0_write_4 (by decide) (by omega) (fun hc => ?_) (fun hc9 => absurd hc9 (by omega))
  refine lv_iload_n hx hb dX0_write_9 rfl (lv_at hl 2 rfl) ?_
  refine pa_callS (n := 1) ⟨hx, hb, hml, hown, hts⟩ (m_badPlace l (r := nI 0) (Or.inr ⟨rfl, _, hi1, rfl⟩)) (lw_S q79 q80 q18 q81) rfl rfl (by decide +kernel) ⟨by decide, by decide⟩ rfl hl.1 rfl (Nat.le_of_ble_eq_true rfl) dX0_write_10 ⟨Nat.le_refl _, Nat.le_refl _⟩ ?_
  refine na_if_eq (tgt := 19) hx hb dX0_write_13 (by decide) (by omega) (fun hc => ?_) (fun hc9 => absurd hc9 (by omega))
  refine lv_iload_n hx hb dX0_write_19 rfl (lv_at hl 3 rfl) ?_
  refine na_if_lt (tgt := 30) hx hb dX0_write_20 (by decide) (by omega) ?_
  refine lv_iload_n hx hb dX0_write_23 rfl (lv_at hl 3 rfl) ?_
  refine lv_sipush (v := nI 255) hx hb dX0_write_24 (by decide) ?_
  refine na_icmp_le (tgt := 33) hx hb dX0_write_27 (by decide) (by omega) (by omega) (fun hc => ?_) (fun hc9 => absurd hc9 (by omega))
  refine lv_aload_n hx hb dX0_write_33 rfl (lv_at hl 0 rfl) ?_
  refine lv_iload_n hx hb dX0_write_34 rfl (lv_at hl 1 rfl) ?_
  refine pa_callR (ci := 0) (n := 1) ⟨hx, hb, hml, hown, hts⟩ (m_stateOf l hth (by omega)) hK hP rfl rfl (lw_V q82 q84 qs1 q18 q85) rfl rfl (by decide +kernel) ⟨by decide, by decide⟩ rfl hl.1 rfl (Nat.le_of_ble_eq_true rfl) dX0_write_35 ⟨Nat.le_refl _, Nat.le_refl _⟩ ?_
  refine lv_istore (lv' := [(4, .int (nI (pf_st da th ck b))), (0, .ref (a 0)), (1, .int (nI b)), (2, .int (nI i)), (3, .int (nI v))]) hx hb dX0_write_38 hl (by decide) rfl (fun ls hl => ?_)
  refine lv_iload hx hb dX0_write_40 (lv_at hl 0 rfl) ?_
  refine na_if_eq (tgt := 48) hx hb dX0_write_42 (by decide) (by omega) (fun hc => ?_) (fun hc9 => absurd hc9 (by omega))
  refine lv_iload_n hx hb dX0_write_48 rfl (lv_at hl 2 rfl) ?_
  refine lv_bipush (v := nI 8) hx hb dX0_write_49 (by decide) ?_
  refine na_mul hx hb dX0_write_51 ?_
  refine lv_iload_n hx hb dX0_write_52 rfl (lv_at hl 3 rfl) ?_
  refine na_add hx hb dX0_write_53 ?_
  refine lv_istore (lv' := [(5, .int (nI ((b * 8) + i))), (4, .int (nI (pf_st da th ck b))), (0, .ref (a 0)), (1, .int (nI b)), (2, .int (nI i)), (3, .int (nI v))]) hx hb dX0_write_54 hl (by decide) rfl (fun ls hl => ?_)
  refine lv_aload_n hx hb dX0_write_56 rfl (lv_at hl 2 rfl) ?_
  refine x_get hx hb hts hown hK hP rfl 2 (by decide) q35 rfl rfl dX0_write_57 ?_
  refine lv_iload hx hb dX0_write_60 (lv_at hl 0 rfl) ?_
  refine ra_ld hx hb hK hP 3 0 rfl rfl (by omega) (by decide) dX0_write_62 ?_
  refine lv_istore (lv' := [(6, .int (nI (da ((b * 8) + i)))), (5, .int (nI ((b * 8) + i))), (4, .int (nI (pf_st da th ck b))), (0, .ref (a 0)), (1, .int (nI b)), (2, .int (nI i)), (3, .int (nI v))]) hx hb dX0_write_63 hl (by decide) rfl (fun ls hl => ?_)
  refine lv_aload_n hx hb dX0_write_65 rfl (lv_at hl 3 rfl) ?_
  refine x_get hx hb hts hown hK hP rfl 2 (by decide) q35 rfl rfl dX0_write_66 ?_
  refine lv_iload hx hb dX0_write_69 (lv_at hl 1 rfl) ?_
  refine lv_iload_n hx hb dX0_write_71 rfl (lv_at hl 6 rfl) ?_
  refine ra_st (ws' := WX a cI cZ pf_P pf_E (pa_u da ((b * 8) + i) v) th ck rc re rt ms mb ur eq) hx hb hK hP (WX_D hN) hS 3 0 rfl rfl (by omega) (by decide) dX0_write_72 rfl (fun H locs hP hS => ?_)
  refine lv_aload_n hx hb dX0_write_73 rfl (lv_at hl 3 rfl) ?_
  refine x_get hx hb hts hown hK hP rfl 4 (by decide) q37 rfl rfl dX0_write_74 ?_
  refine lv_iload_n hx hb dX0_write_77 rfl (lv_at hl 4 rfl) ?_
  refine lv_aload_n hx hb dX0_write_78 rfl (lv_at hl 3 rfl) ?_
  refine lv_iload_n hx hb dX0_write_79 rfl (lv_at hl 4 rfl) ?_
  refine pa_callR (ci := 0) (n := 1) ⟨hx, hb, hml, hown, hts⟩ (m_checkOf l (by omega)) hK hP rfl rfl (lw_V q28 q30 qs0 q18 q31) rfl rfl (by decide +kernel) ⟨by decide, by decide⟩ rfl hl.1 rfl (Nat.le_of_ble_eq_true rfl) dX0_write_80 ⟨Nat.le_refl _, Nat.le_refl _⟩ ?_
  refine rk_st (ws' := WX a cI cZ pf_P pf_E (pa_u da ((b * 8) + i) v) th (upd ck b (pf_sum (pa_u da ((b * 8) + i) v) b 8)) rc re rt ms mb ur eq) hx hb hK hP (WX_D hN) hS 5 0 rfl rfl (by omega) (by decide) dX0_write_83 rfl (fun H locs hP hS => ?_)
  refine lv_iconst (v := nI 0) hx hb dX0_write_84 (by decide) ?_
  refine lv_istore (lv' := [(7, .int (nI 0)), (6, .int (nI (da ((b * 8) + i)))), (5, .int (nI ((b * 8) + i))), (4, .int (nI (pf_st da th ck b))), (0, .ref (a 0)), (1, .int (nI b)), (2, .int (nI i)), (3, .int (nI v))]) hx hb dX0_write_85 hl (by decide) rfl (fun ls hl => ?_)
  refine pa_lpm (nL := 9) (fun k (x : (Nat → Nat)) => x = pf_wr re b i (da (b * 8 + i) ^^^ v) k) (fun k (x : (Nat → Nat)) => [(0, .ref (a 0)), (1, .int (nI b)), (2, .int (nI i)), (3, .int (nI v)), (4, .int (nI (pf_st da th ck b))), (5, .int (nI ((b * 8) + i))), (6, .int (nI (da ((b * 8) + i)))), (7, .int (nI k))]) (fun k (x : (Nat → Nat)) => WX a cI cZ pf_P pf_E (pa_u da ((b * 8) + i) v) th (upd ck b (pf_sum (pa_u da ((b * 8) + i) v) b 8)) rc x rt ms mb ur eq) 0 rc (by omega) (re) rfl (lv_sub hl [4, 5, 6, 7, 3, 2, 1, 0] rfl) hP hS (fun k f H locs ls hge hhi hI hl hP hS ih => ?_) (fun f H locs ls hI hl hP hS => ?_)
  · skip
    have hI : f = pf_wr re b i (da (b * 8 + i) ^^^ v) k := hI
    have hl : lv_has ls 9 [(0, .ref (a 0)), (1, .int (nI b)), (2, .int (nI i)), (3, .int (nI v)), (4, .int (nI (pf_st da th ck b))), (5, .int (nI ((b * 8) + i))), (6, .int (nI (da ((b * 8) + i)))), (7, .int (nI k))] := hl
    have hP : va_P D clA (WX a cI cZ pf_P pf_E (pa_u da ((b * 8) + i) v) th (upd ck b (pf_sum (pa_u da ((b * 8) + i) v) b 8)) rc f rt ms mb ur eq) H := hP
    refine lv_iload hx hb dX0_write_87 (lv_at hl 7 rfl) ?_
    refine lv_aload_n hx hb dX0_write_89 rfl (lv_at hl 0 rfl) ?_
    refine x_get hx hb hts hown hK hP rfl 5 (by decide) q38 rfl rfl dX0_write_90 ?_
    refine na_icmp_ge (tgt := 136) hx hb dX0_write_93 (by decide) (by omega) (by omega) (fun hc9 => absurd hc9 (by omega)) (fun hc => ?_)
    refine lv_aload_n hx hb dX0_write_96 rfl (lv_at hl 0 rfl) ?_
    refine lv_iload hx hb dX0_write_97 (lv_at hl 7 rfl) ?_
    refine lv_iload_n hx hb dX0_write_99 rfl (lv_at hl 1 rfl) ?_
    refine pa_callR (ci := 0) (n := 2) ⟨hx, hb, hml, hown, hts⟩ (m_factor l (by omega) (by omega)) hK hP rfl rfl (lw_V q86 q88 qs2 q18 q89) rfl rfl (by decide +kernel) ⟨by decide, by decide⟩ rfl hl.1 rfl (Nat.le_of_ble_eq_true rfl) dX0_write_100 ⟨Nat.le_refl _, Nat.le_refl _⟩ ?_
    refine lv_istore (lv' := [(8, .int (nI (pf_fac k b))), (0, .ref (a 0)), (1, .int (nI b)), (2, .int (nI i)), (3, .int (nI v)), (4, .int (nI (pf_st da th ck b))), (5, .int (nI ((b * 8) + i))), (6, .int (nI (da ((b * 8) + i)))), (7, .int (nI k))]) hx hb dX0_write_103 hl (by decide) rfl (fun ls hl => ?_)
    refine lv_aload_n hx hb dX0_write_105 rfl (lv_at hl 1 rfl) ?_
    refine x_get hx hb hts hown hK hP rfl 6 (by decide) q39 rfl rfl dX0_write_106 ?_
    refine lv_iload hx hb dX0_write_109 (lv_at hl 8 rfl) ?_
    refine lv_bipush (v := nI 8) hx hb dX0_write_111 (by decide) ?_
    refine na_mul hx hb dX0_write_113 ?_
    refine lv_iload_n hx hb dX0_write_114 rfl (lv_at hl 3 rfl) ?_
    refine na_add hx hb dX0_write_115 ?_
    refine lv_dup2_11 hx hb dX0_write_116 rfl rfl ?_
    refine ra_ld hx hb hK hP 6 0 rfl rfl (by omega) (by decide) dX0_write_117 ?_
    refine lv_aload_n hx hb dX0_write_118 rfl (lv_at hl 1 rfl) ?_
    refine lv_iload hx hb dX0_write_119 (lv_at hl 0 rfl) ?_
    refine lv_iload hx hb dX0_write_121 (lv_at hl 7 rfl) ?_
    refine lv_iload_n hx hb dX0_write_123 rfl (lv_at hl 4 rfl) ?_
    refine na_xor hx hb dX0_write_124 ?_
    refine pa_callR (ci := 0) (n := 2) ⟨hx, hb, hml, hown, hts⟩ (m_times l (pf_fac_lt _ _) (pf_xor_lt (hda _) hv1)) hK hP rfl rfl (lw_V q94 q96 qs4 q18 q97) rfl rfl (by decide +kernel) ⟨by decide, by decide⟩ rfl hl.1 rfl (Nat.le_of_ble_eq_true rfl) dX0_write_125 ⟨Nat.le_refl _, Nat.le_refl _⟩ ?_
    refine na_xor hx hb dX0_write_128 ?_
    refine ra_st (ws' := WX a cI cZ pf_P pf_E (pa_u da ((b * 8) + i) v) th (upd ck b (pf_sum (pa_u da ((b * 8) + i) v) b 8)) rc (pa_u f ((k * 8) + i) ((f ((k * 8) + i)) ^^^ (pf_mul (pf_fac k b) ((da ((b * 8) + i)) ^^^ v)))) rt ms mb ur eq) hx hb hK hP (WX_D hN) hS 6 0 rfl rfl (by omega) (by decide) dX0_write_129 rfl (fun H locs hP hS => ?_)
    refine na_iinc (lv' := [(7, .int (nI (k + 1))), (8, .int (nI (pf_fac k b))), (0, .ref (a 0)), (1, .int (nI b)), (2, .int (nI i)), (3, .int (nI v)), (4, .int (nI (pf_st da th ck b))), (5, .int (nI ((b * 8) + i))), (6, .int (nI (da ((b * 8) + i))))]) hx hb dX0_write_130 hl (k := 8) rfl (by decide) rfl (fun ls hl => ?_)
    refine lv_goto (tgt := 87) hx hb dX0_write_133 (by decide) ?_
    exact ih (pa_u f ((k * 8) + i) ((f ((k * 8) + i)) ^^^ (pf_mul (pf_fac k b) ((da ((b * 8) + i)) ^^^ v)))) _ _ _ (by rw [hI]; rfl) (lv_sub hl [2, 3, 4, 5, 6, 7, 8, 0] rfl) hP hS
  · skip
    have hI : f = pf_wr re b i (da (b * 8 + i) ^^^ v) rc := hI
    have hl : lv_has ls 9 [(0, .ref (a 0)), (1, .int (nI b)), (2, .int (nI i)), (3, .int (nI v)), (4, .int (nI (pf_st da th ck b))), (5, .int (nI ((b * 8) + i))), (6, .int (nI (da ((b * 8) + i)))), (7, .int (nI rc))] := hl
    have hP : va_P D clA (WX a cI cZ pf_P pf_E (pa_u da ((b * 8) + i) v) th (upd ck b (pf_sum (pa_u da ((b * 8) + i) v) b 8)) rc f rt ms mb ur eq) H := hP
    refine lv_iload hx hb dX0_write_87 (lv_at hl 7 rfl) ?_
    refine lv_aload_n hx hb dX0_write_89 rfl (lv_at hl 0 rfl) ?_
    refine x_get hx hb hts hown hK hP rfl 5 (by decide) q38 rfl rfl dX0_write_90 ?_
    refine na_icmp_ge (tgt := 136) hx hb dX0_write_93 (by decide) (by omega) (by omega) (fun hc => ?_) (fun hc9 => absurd hc9 (by omega))
    refine lv_iload hx hb dX0_write_136 (lv_at hl 6 rfl) ?_
    exact pa_iretM hx hb hr hlk rfl (by rw [hI] at hP; exact hP) hS dX0_write_138
set_option maxHeartbeats 4000000 in
theorem m_protect_1 (l : Launch) {D : va_G} {a : Nat → Nat} {cI cZ : ClassId} {da th : Nat → Nat} {ck : Nat → Int32} {rc : Nat} {re rt : Nat → Nat} {ms : Nat} {mb ur eq : Nat → Nat}  {mm : Int32} (hN : pa_N 11 a) (h : mm < 0 ∨ nI 5 ≤ mm) : Met l yX0_protect (ws_ yX0_protect cX0_protect 4 (some .int)) (pa_rm 3 68) (PcX D clA [(cI, .int), (cZ, .boolean)] [.ref (a 0), .int mm] (WX a cI cZ pf_P pf_E da th ck rc re rt ms mb ur eq)) (QcXi (-3) D clA (WX a cI cZ pf_P pf_E da th ck rc re rt ms mb ur eq) (pa_A 11 a)) 0 0 (pa_A 11 a) := by
  refine pa_enter (by decide) (Nat.le_of_ble_eq_true rfl) (fun p e s m below meth c ls hx hb hr hlk hml hown hin hts hP hK hl => ?_)
  have hown : s.vm.findClass RX0 = some m.cls := hown
  have hl : lv_has ls 4 [(0, .ref (a 0)), (1, .int mm)] := hl
  have hS : va_S (pa_A 11 a) s.heap s.heap [] := va_S.rf
  rcases h with h | h
  · skip
    refine lv_iload_n hx hb dX0_protect_0 rfl (lv_at hl 1 rfl) ?_
    refine lv_if_lt (tgt := 9) hx hb dX0_protect_1 (by decide) (fun hc => ?_) (fun hc9 => absurd hc9 (fun q => q h))
    refine lv_bipush (v := (-3)) hx hb dX0_protect_9 (by decide) ?_
    exact pa_iretM hx hb hr hlk rfl hP hS dX0_protect_11
  · skip
    refine lv_iload_n hx hb dX0_protect_0 rfl (lv_at hl 1 rfl) ?_
    refine lv_if_lt (tgt := 9) hx hb dX0_protect_1 (by decide) (fun hc9 => absurd hc9 (fun q => absurd (Int32.lt_of_le_of_lt h q) (by decide))) (fun hc => ?_)
    refine lv_iload_n hx hb dX0_protect_4 rfl (lv_at hl 1 rfl) ?_
    refine lv_iconst (v := nI 4) hx hb dX0_protect_5 (by decide) ?_
    refine lv_icmp_le (tgt := 12) hx hb dX0_protect_6 (by decide) (fun hc9 => absurd hc9 (fun q => absurd (Int32.le_trans h q) (by decide))) (fun hc => ?_)
    refine lv_bipush (v := (-3)) hx hb dX0_protect_9 (by decide) ?_
    exact pa_iretM hx hb hr hlk rfl hP hS dX0_protect_11
set_option maxHeartbeats 4000000 in
theorem m_protect_2 (l : Launch) {D : va_G} {a : Nat → Nat} {cI cZ : ClassId} {da th : Nat → Nat} {ck : Nat → Int32} {rc : Nat} {re rt : Nat → Nat} {ms : Nat} {mb ur eq : Nat → Nat} {k : Nat}  (hN : pa_N 11 a) (hth : ∀ j, th j < 2) (hk1 : k < 5) (h : 0 < pf_bad da th ck 6) : Met l yX0_protect (ws_ yX0_protect cX0_protect 4 (some .int)) (pa_rm 3 68) (PcX D clA [(cI, .int), (cZ, .boolean)] [.ref (a 0), .int (nI k)] (WX a cI cZ pf_P pf_E da th ck rc re rt ms mb ur eq)) (QcXi (-4) D clA (WX a cI cZ pf_P pf_E da th ck rc re rt ms mb ur eq) (pa_A 11 a)) 0 0 (pa_A 11 a) := by
  refine pa_enter (by decide) (Nat.le_of_ble_eq_true rfl) (fun p e s m below meth c ls hx hb hr hlk hml hown hin hts hP hK hl => ?_)
  have hown : s.vm.findClass RX0 = some m.cls := hown
  have hl : lv_has ls 4 [(0, .ref (a 0)), (1, .int (nI k))] := hl
  have hS : va_S (pa_A 11 a) s.heap s.heap [] := va_S.rf
  have hs := pf_bad_le da th ck 6
  refine lv_iload_n hx hb dX0_protect_0 rfl (lv_at hl 1 rfl) ?_
  refine na_if_lt (tgt := 9) hx hb dX0_protect_1 (by decide) (by omega) ?_
  refine lv_iload_n hx hb dX0_protect_4 rfl (lv_at hl 1 rfl) ?_
  refine lv_iconst (v := nI 4) hx hb dX0_protect_5 (by decide) ?_
  refine na_icmp_le (tgt := 12) hx hb dX0_protect_6 (by decide) (by omega) (by omega) (fun hc => ?_) (fun hc9 => absurd hc9 (by omega))
  refine lv_aload_n hx hb dX0_protect_12 rfl (lv_at hl 0 rfl) ?_
  refine pa_callR (ci := 0) (n := 0) ⟨hx, hb, hml, hown, hts⟩ (m_badBlocks l hth) hK hP rfl rfl (lw_V q102 q104 qs5 q18 q105) rfl rfl (by decide +kernel) ⟨by decide, by decide⟩ rfl hl.1 rfl (Nat.le_of_ble_eq_true rfl) dX0_protect_13 ⟨Nat.le_refl _, Nat.le_refl _⟩ ?_
  refine lv_istore_n (lv' := [(2, .int (nI (pf_bad da th ck 6))), (0, .ref (a 0)), (1, .int (nI k))]) hx hb dX0_protect_16 rfl hl (by decide) rfl (fun ls hl => ?_)
  refine lv_iload_n hx hb dX0_protect_17 rfl (lv_at hl 0 rfl) ?_
  refine na_if_le (tgt := 24) hx hb dX0_protect_18 (by decide) (by omega) (fun hc9 => absurd hc9 (by omega)) (fun hc => ?_)
  refine lv_bipush (v := (-4)) hx hb dX0_protect_21 (by decide) ?_
  exact pa_iretM hx hb hr hlk rfl hP hS dX0_protect_23
set_option maxHeartbeats 4000000 in
theorem m_protect_3 (l : Launch) {D : va_G} {a : Nat → Nat} {cI cZ : ClassId} {da th : Nat → Nat} {ck : Nat → Int32} {rc : Nat} {re rt : Nat → Nat} {ms : Nat} {mb ur eq : Nat → Nat} {k : Nat}  (hN : pa_N 11 a) (hda : ∀ j, da j < 256) (hth : ∀ j, th j < 2) (hk1 : k < 5) (h : pf_bad da th ck 6 = 0) : Met l yX0_protect (ws_ yX0_protect cX0_protect 4 (some .int)) (pa_rm 3 68) (PcX D clA [(cI, .int), (cZ, .boolean)] [.ref (a 0), .int (nI k)] (WX a cI cZ pf_P pf_E da th ck rc re rt ms mb ur eq)) (QcXi (nI k) D clA (WX a cI cZ pf_P pf_E da th ck k (pf_pr da re k) (pf_pt rt k) ms mb ur eq) (pa_A 11 a)) 0 0 (pa_A 11 a) := by
  refine pa_enter (by decide) (Nat.le_of_ble_eq_true rfl) (fun p e s m below meth c ls hx hb hr hlk hml hown hin hts hP hK hl => ?_)
  have hown : s.vm.findClass RX0 = some m.cls := hown
  have hl : lv_has ls 4 [(0, .ref (a 0)), (1, .int (nI k))] := hl
  have hS : va_S (pa_A 11 a) s.heap s.heap [] := va_S.rf
  refine lv_iload_n hx hb dX0_protect_0 rfl (lv_at hl 1 rfl) ?_
  refine na_if_lt (tgt := 9) hx hb dX0_protect_1 (by decide) (by omega) ?_
  refine lv_iload_n hx hb dX0_protect_4 rfl (lv_at hl 1 rfl) ?_
  refine lv_iconst (v := nI 4) hx hb dX0_protect_5 (by decide) ?_
  refine na_icmp_le (tgt := 12) hx hb dX0_protect_6 (by decide) (by omega) (by omega) (fun hc => ?_) (fun hc9 => absurd hc9 (by omega))
  refine lv_aload_n hx hb dX0_protect_12 rfl (lv_at hl 0 rfl) ?_
  refine pa_callR (ci := 0) (n := 0) ⟨hx, hb, hml, hown, hts⟩ (m_badBlocks l hth) hK hP rfl rfl (lw_V q102 q104 qs5 q18 q105) rfl rfl (by decide +kernel) ⟨by decide, by decide⟩ rfl hl.1 rfl (Nat.le_of_ble_eq_true rfl) dX0_protect_13 ⟨Nat.le_refl _, Nat.le_refl _⟩ ?_
  refine lv_istore_n (lv' := [(2, .int (nI (pf_bad da th ck 6))), (0, .ref (a 0)), (1, .int (nI k))]) hx hb dX0_protect_16 rfl hl (by decide) rfl (fun ls hl => ?_)
  refine lv_iload_n hx hb dX0_protect_17 rfl (lv_at hl 0 rfl) ?_
  refine na_if_le (tgt := 24) hx hb dX0_protect_18 (by decide) (by omega) (fun hc => ?_) (fun hc9 => absurd hc9 (by omega))
  refine lv_aload_n hx hb dX0_protect_24 rfl (lv_at hl 1 rfl) ?_
  refine lv_iload_n hx hb dX0_protect_25 rfl (lv_at hl 2 rfl) ?_
  refine x_put (ws' := WX a cI cZ pf_P pf_E da th ck k re rt ms mb ur eq) hx hb hts hown hK hP (WX_D hN) hS rfl 5 (by decide) q38 rfl rfl (by decide +kernel) (Nat.le_of_ble_eq_true rfl) dX0_protect_26 rfl (fun H locs hP hS => ?_)
  refine lv_iconst (v := nI 0) hx hb dX0_protect_29 (by decide) ?_
  refine lv_istore_n (lv' := [(3, .int (nI 0)), (2, .int (nI (pf_bad da th ck 6))), (0, .ref (a 0)), (1, .int (nI k))]) hx hb dX0_protect_30 rfl hl (by decide) rfl (fun ls hl => ?_)
  refine pa_lpm (nL := 4) (fun i (x : (Nat → Nat) × (Nat → Nat)) => x.1 = pf_pr da re i ∧ x.2 = pf_pt rt i) (fun i (x : (Nat → Nat) × (Nat → Nat)) => [(0, .ref (a 0)), (1, .int (nI k)), (3, .int (nI i))]) (fun i (x : (Nat → Nat) × (Nat → Nat)) => WX a cI cZ pf_P pf_E da th ck k x.1 x.2 ms mb ur eq) 0 k (by omega) (re, rt) ⟨rfl, rfl⟩ (lv_sub hl [2, 3, 0] rfl) hP hS (fun i x H locs ls hge hhi hI hl hP hS ih => ?_) (fun x H locs ls hI hl hP hS => ?_)
  · skip
    obtain ⟨f, t⟩ := x
    have hI : f = pf_pr da re i ∧ t = pf_pt rt i := hI
    have hl : lv_has ls 4 [(0, .ref (a 0)), (1, .int (nI k)), (3, .int (nI i))] := hl
    have hP : va_P D clA (WX a cI cZ pf_P pf_E da th ck k f t ms mb ur eq) H := hP
    refine lv_iload_n hx hb dX0_protect_31 rfl (lv_at hl 2 rfl) ?_
    refine lv_iload_n hx hb dX0_protect_32 rfl (lv_at hl 1 rfl) ?_
    refine na_icmp_ge (tgt := 47) hx hb dX0_protect_33 (by decide) (by omega) (by omega) (fun hc9 => absurd hc9 (by omega)) (fun hc => ?_)
    refine lv_aload_n hx hb dX0_protect_36 rfl (lv_at hl 0 rfl) ?_
    refine lv_iload_n hx hb dX0_protect_37 rfl (lv_at hl 2 rfl) ?_
    refine pa_callV (ci := 0) (n := 1) ⟨hx, hb, hml, hown, hts⟩ (m_makeRecovery l hN hda (by omega)) hK hP hS (fun _ h => h) rfl rfl (lw_V q106 q108 qs6 q18 q109) rfl rfl (by decide +kernel) ⟨by decide, by decide⟩ rfl hl.1 rfl (Nat.le_of_ble_eq_true rfl) dX0_protect_38 ⟨Nat.le_refl _, Nat.le_refl _⟩ (fun H locs hP hS _ => ?_)
    refine na_iinc (lv' := [(3, .int (nI (i + 1))), (0, .ref (a 0)), (1, .int (nI k))]) hx hb dX0_protect_41 hl (k := 2) rfl (by decide) rfl (fun ls hl => ?_)
    refine lv_goto (tgt := 31) hx hb dX0_protect_44 (by decide) ?_
    exact ih (pf_mk da f i 8, pa_u t i 1) _ _ _ ⟨by rw [hI.1]; rfl, by rw [hI.2]; rfl⟩ (lv_sub hl [1, 2, 0] rfl) hP hS
  · skip
    obtain ⟨f, t⟩ := x
    have hI : f = pf_pr da re k ∧ t = pf_pt rt k := hI
    have hl : lv_has ls 4 [(0, .ref (a 0)), (1, .int (nI k)), (3, .int (nI k))] := hl
    have hP : va_P D clA (WX a cI cZ pf_P pf_E da th ck k f t ms mb ur eq) H := hP
    refine lv_iload_n hx hb dX0_protect_31 rfl (lv_at hl 2 rfl) ?_
    refine lv_iload_n hx hb dX0_protect_32 rfl (lv_at hl 1 rfl) ?_
    refine na_icmp_ge (tgt := 47) hx hb dX0_protect_33 (by decide) (by omega) (by omega) (fun hc => ?_) (fun hc9 => absurd hc9 (by omega))
    refine lv_iload_n hx hb dX0_protect_47 rfl (lv_at hl 1 rfl) ?_
    exact pa_iretM hx hb hr hlk rfl (by rw [hI.1, hI.2] at hP; exact hP) hS dX0_protect_48
set_option maxHeartbeats 4000000 in
theorem m_lose_1 (l : Launch) {D : va_G} {a : Nat → Nat} {cI cZ : ClassId} {da th : Nat → Nat} {ck : Nat → Int32} {rc : Nat} {re rt : Nat → Nat} {ms : Nat} {mb ur eq : Nat → Nat}  {bk : Int32} (hN : pa_N 11 a) (h : bk < 0 ∨ nI 6 ≤ bk) : Met l yX0_lose (ws_ yX0_lose cX0_lose 3 (some .int)) (pa_rm 2 45) (PcX D clA [(cI, .int), (cZ, .boolean)] [.ref (a 0), .int bk] (WX a cI cZ pf_P pf_E da th ck rc re rt ms mb ur eq)) (QcXi (-1) D clA (WX a cI cZ pf_P pf_E da th ck rc re rt ms mb ur eq) (pa_A 11 a)) 0 0 (pa_A 11 a) := by
  refine pa_enter (by decide) (Nat.le_of_ble_eq_true rfl) (fun p e s m below meth c ls hx hb hr hlk hml hown hin hts hP hK hl => ?_)
  have hown : s.vm.findClass RX0 = some m.cls := hown
  have hl : lv_has ls 3 [(0, .ref (a 0)), (1, .int bk)] := hl
  have hS : va_S (pa_A 11 a) s.heap s.heap [] := va_S.rf
  refine lv_iload_n hx hb dX0_lose_0 rfl (lv_at hl 1 rfl) ?_
  refine pa_callS (n := 1) ⟨hx, hb, hml, hown, hts⟩ (m_badBlock l (r := nI 1) (Or.inl ⟨rfl, h⟩)) (lw_S q76 q77 q18 q78) rfl rfl (by decide +kernel) ⟨by decide, by decide⟩ rfl hl.1 rfl (Nat.le_of_ble_eq_true rfl) dX0_lose_1 ⟨Nat.le_refl _, Nat.le_refl _⟩ ?_
  refine na_if_eq (tgt := 9) hx hb dX0_lose_4 (by decide) (by omega) (fun hc9 => absurd hc9 (by omega)) (fun hc => ?_)
  refine lv_iconst (v := (-1)) hx hb dX0_lose_7 (by decide) ?_
  exact pa_iretM hx hb hr hlk rfl hP hS dX0_lose_8
set_option maxHeartbeats 4000000 in
theorem m_lose_2 (l : Launch) {D : va_G} {a : Nat → Nat} {cI cZ : ClassId} {da th : Nat → Nat} {ck : Nat → Int32} {rc : Nat} {re rt : Nat → Nat} {ms : Nat} {mb ur eq : Nat → Nat} {b : Nat}  (hN : pa_N 11 a) (hth : ∀ j, th j < 2) (hb1 : b < 6) : Met l yX0_lose (ws_ yX0_lose cX0_lose 3 (some .int)) (pa_rm 2 45) (PcX D clA [(cI, .int), (cZ, .boolean)] [.ref (a 0), .int (nI b)] (WX a cI cZ pf_P pf_E da th ck rc re rt ms mb ur eq)) (QcXi (nI (pf_st da th ck b)) D clA (WX a cI cZ pf_P pf_E da (pa_u th b 0) ck rc re rt ms mb ur eq) (pa_A 11 a)) 0 0 (pa_A 11 a) := by
  refine pa_enter (by decide) (Nat.le_of_ble_eq_true rfl) (fun p e s m below meth c ls hx hb hr hlk hml hown hin hts hP hK hl => ?_)
  have hown : s.vm.findClass RX0 = some m.cls := hown
  have hl : lv_has ls 3 [(0, .ref (a 0)), (1, .int (nI b))] := hl
  have hS : va_S (pa_A 11 a) s.heap s.heap [] := va_S.rf
  refine lv_iload_n hx hb dX0_lose_0 rfl (lv_at hl 1 rfl) ?_
  refine pa_callS (n := 1) ⟨hx, hb, hml, hown, hts⟩ (m_badBlock l (r := nI 0) (Or.inr ⟨rfl, _, hb1, rfl⟩)) (lw_S q76 q77 q18 q78) rfl rfl (by decide +kernel) ⟨by decide, by decide⟩ rfl hl.1 rfl (Nat.le_of_ble_eq_true rfl) dX0_lose_1 ⟨Nat.le_refl _, Nat.le_refl _⟩ ?_
  refine na_if_eq (tgt := 9) hx hb dX0_lose_4 (by decide) (by omega) (fun hc => ?_) (fun hc9 => absurd hc9 (by omega))
  refine lv_aload_n hx hb dX0_lose_9 rfl (lv_at hl 0 rfl) ?_
  refine lv_iload_n hx hb dX0_lose_10 rfl (lv_at hl 1 rfl) ?_
  refine pa_callR (ci := 0) (n := 1) ⟨hx, hb, hml, hown, hts⟩ (m_stateOf l hth (by omega)) hK hP rfl rfl (lw_V q82 q84 qs1 q18 q85) rfl rfl (by decide +kernel) ⟨by decide, by decide⟩ rfl hl.1 rfl (Nat.le_of_ble_eq_true rfl) dX0_lose_11 ⟨Nat.le_refl _, Nat.le_refl _⟩ ?_
  refine lv_istore_n (lv' := [(2, .int (nI (pf_st da th ck b))), (0, .ref (a 0)), (1, .int (nI b))]) hx hb dX0_lose_14 rfl hl (by decide) rfl (fun ls hl => ?_)
  refine lv_aload_n hx hb dX0_lose_15 rfl (lv_at hl 1 rfl) ?_
  refine x_get hx hb hts hown hK hP rfl 3 (by decide) q36 rfl rfl dX0_lose_16 ?_
  refine lv_iload_n hx hb dX0_lose_19 rfl (lv_at hl 2 rfl) ?_
  refine lv_iconst (v := nI 0) hx hb dX0_lose_20 (by decide) ?_
  refine rz_st (ws' := WX a cI cZ pf_P pf_E da (pa_u th b 0) ck rc re rt ms mb ur eq) hx hb hK hP (WX_D hN) hS 4 1 rfl rfl (by omega) (by decide) (by decide) dX0_lose_21 rfl (fun H locs hP hS => ?_)
  refine lv_iload_n hx hb dX0_lose_22 rfl (lv_at hl 0 rfl) ?_
  exact pa_iretM hx hb hr hlk rfl hP hS dX0_lose_23
set_option maxHeartbeats 4000000 in
theorem m_loseRecovery_1 (l : Launch) {D : va_G} {a : Nat → Nat} {cI cZ : ClassId} {da th : Nat → Nat} {ck : Nat → Int32} {rc : Nat} {re rt : Nat → Nat} {ms : Nat} {mb ur eq : Nat → Nat}  {rr : Int32} (hN : pa_N 11 a) (hrc : rc ≤ 4) (h : rr < 0 ∨ nI rc ≤ rr) : Met l yX0_loseRecovery (ws_ yX0_loseRecovery cX0_loseRecovery 3 (some .int)) (pa_rm 0 0) (PcX D clA [(cI, .int), (cZ, .boolean)] [.ref (a 0), .int rr] (WX a cI cZ pf_P pf_E da th ck rc re rt ms mb ur eq)) (QcXi (-5) D clA (WX a cI cZ pf_P pf_E da th ck rc re rt ms mb ur eq) (pa_A 11 a)) 0 0 (pa_A 11 a) := by
  refine pa_enter (by decide) (Nat.le_of_ble_eq_true rfl) (fun p e s m below meth c ls hx hb hr hlk hml hown hin hts hP hK hl => ?_)
  have hown : s.vm.findClass RX0 = some m.cls := hown
  have hl : lv_has ls 3 [(0, .ref (a 0)), (1, .int rr)] := hl
  have hS : va_S (pa_A 11 a) s.heap s.heap [] := va_S.rf
  rcases h with h | h
  · skip
    refine lv_iload_n hx hb dX0_loseRecovery_0 rfl (lv_at hl 1 rfl) ?_
    refine lv_if_lt (tgt := 12) hx hb dX0_loseRecovery_1 (by decide) (fun hc => ?_) (fun hc9 => absurd hc9 (fun q => q h))
    refine lv_bipush (v := (-5)) hx hb dX0_loseRecovery_12 (by decide) ?_
    exact pa_iretM hx hb hr hlk rfl hP hS dX0_loseRecovery_14
  · skip
    refine lv_iload_n hx hb dX0_loseRecovery_0 rfl (lv_at hl 1 rfl) ?_
    refine lv_if_lt (tgt := 12) hx hb dX0_loseRecovery_1 (by decide) (fun hc9 => absurd hc9 (fun q => absurd (Int32.lt_of_le_of_lt h q) (nI_pos (by omega)))) (fun hc => ?_)
    refine lv_iload_n hx hb dX0_loseRecovery_4 rfl (lv_at hl 1 rfl) ?_
    refine lv_aload_n hx hb dX0_loseRecovery_5 rfl (lv_at hl 0 rfl) ?_
    refine x_get hx hb hts hown hK hP rfl 5 (by decide) q38 rfl rfl dX0_loseRecovery_6 ?_
    refine lv_icmp_lt (tgt := 15) hx hb dX0_loseRecovery_9 (by decide) (fun hc9 => absurd hc9 (fun q => absurd (Int32.lt_of_le_of_lt h q) Int32.lt_irrefl)) (fun hc => ?_)
    refine lv_bipush (v := (-5)) hx hb dX0_loseRecovery_12 (by decide) ?_
    exact pa_iretM hx hb hr hlk rfl hP hS dX0_loseRecovery_14
set_option maxHeartbeats 4000000 in
theorem m_loseRecovery_2 (l : Launch) {D : va_G} {a : Nat → Nat} {cI cZ : ClassId} {da th : Nat → Nat} {ck : Nat → Int32} {rc : Nat} {re rt : Nat → Nat} {ms : Nat} {mb ur eq : Nat → Nat} {k : Nat}  (hN : pa_N 11 a) (hrc : rc ≤ 4) (hrt : ∀ j, rt j < 2) (hk1 : k < rc) : Met l yX0_loseRecovery (ws_ yX0_loseRecovery cX0_loseRecovery 3 (some .int)) (pa_rm 0 0) (PcX D clA [(cI, .int), (cZ, .boolean)] [.ref (a 0), .int (nI k)] (WX a cI cZ pf_P pf_E da th ck rc re rt ms mb ur eq)) (QcXi (nI (if rt k = 0 then 1 else 0)) D clA (WX a cI cZ pf_P pf_E da th ck rc re (pa_u rt k 0) ms mb ur eq) (pa_A 11 a)) 0 0 (pa_A 11 a) := by
  refine pa_enter (by decide) (Nat.le_of_ble_eq_true rfl) (fun p e s m below meth c ls hx hb hr hlk hml hown hin hts hP hK hl => ?_)
  have hown : s.vm.findClass RX0 = some m.cls := hown
  have hl : lv_has ls 3 [(0, .ref (a 0)), (1, .int (nI k))] := hl
  have hS : va_S (pa_A 11 a) s.heap s.heap [] := va_S.rf
  have hs := hrt k
  refine lv_iload_n hx hb dX0_loseRecovery_0 rfl (lv_at hl 1 rfl) ?_
  refine na_if_lt (tgt := 12) hx hb dX0_loseRecovery_1 (by decide) (by omega) ?_
  refine lv_iload_n hx hb dX0_loseRecovery_4 rfl (lv_at hl 1 rfl) ?_
  refine lv_aload_n hx hb dX0_loseRecovery_5 rfl (lv_at hl 0 rfl) ?_
  refine x_get hx hb hts hown hK hP rfl 5 (by decide) q38 rfl rfl dX0_loseRecovery_6 ?_
  refine na_icmp_lt (tgt := 15) hx hb dX0_loseRecovery_9 (by decide) (by omega) (by omega) (fun hc => ?_) (fun hc9 => absurd hc9 (by omega))
  refine lv_aload_n hx hb dX0_loseRecovery_15 rfl (lv_at hl 0 rfl) ?_
  refine x_get hx hb hts hown hK hP rfl 7 (by decide) q40 rfl rfl dX0_loseRecovery_16 ?_
  refine lv_iload_n hx hb dX0_loseRecovery_19 rfl (lv_at hl 1 rfl) ?_
  refine rz_ld hx hb hK hP 7 1 rfl rfl (by omega) (by decide) dX0_loseRecovery_20 ?_
  refine na_if_eq (tgt := 28) hx hb dX0_loseRecovery_21 (by decide) (by omega) (fun hc => ?_) (fun hc => ?_)
  · skip
    refine lv_iconst (v := nI 1) hx hb dX0_loseRecovery_28 (by decide) ?_
    refine lv_istore_n (lv' := [(2, .int (nI 1)), (0, .ref (a 0)), (1, .int (nI k))]) hx hb dX0_loseRecovery_29 rfl hl (by decide) rfl (fun ls hl => ?_)
    refine lv_aload_n hx hb dX0_loseRecovery_30 rfl (lv_at hl 1 rfl) ?_
    refine x_get hx hb hts hown hK hP rfl 7 (by decide) q40 rfl rfl dX0_loseRecovery_31 ?_
    refine lv_iload_n hx hb dX0_loseRecovery_34 rfl (lv_at hl 2 rfl) ?_
    refine lv_iconst (v := nI 0) hx hb dX0_loseRecovery_35 (by decide) ?_
    refine rz_st (ws' := WX a cI cZ pf_P pf_E da th ck rc re (pa_u rt k 0) ms mb ur eq) hx hb hK hP (WX_D hN) hS 7 1 rfl rfl (by omega) (by decide) (by decide) dX0_loseRecovery_36 rfl (fun H locs hP hS => ?_)
    refine lv_iload_n hx hb dX0_loseRecovery_37 rfl (lv_at hl 0 rfl) ?_
    exact pa_iretM hx hb hr hlk (by rw [if_pos hc]) hP hS dX0_loseRecovery_38
  · skip
    refine lv_iconst (v := nI 0) hx hb dX0_loseRecovery_24 (by decide) ?_
    refine lv_goto (tgt := 29) hx hb dX0_loseRecovery_25 (by decide) ?_
    refine lv_istore_n (lv' := [(2, .int (nI 0)), (0, .ref (a 0)), (1, .int (nI k))]) hx hb dX0_loseRecovery_29 rfl hl (by decide) rfl (fun ls hl => ?_)
    refine lv_aload_n hx hb dX0_loseRecovery_30 rfl (lv_at hl 1 rfl) ?_
    refine x_get hx hb hts hown hK hP rfl 7 (by decide) q40 rfl rfl dX0_loseRecovery_31 ?_
    refine lv_iload_n hx hb dX0_loseRecovery_34 rfl (lv_at hl 2 rfl) ?_
    refine lv_iconst (v := nI 0) hx hb dX0_loseRecovery_35 (by decide) ?_
    refine rz_st (ws' := WX a cI cZ pf_P pf_E da th ck rc re (pa_u rt k 0) ms mb ur eq) hx hb hK hP (WX_D hN) hS 7 1 rfl rfl (by omega) (by decide) (by decide) dX0_loseRecovery_36 rfl (fun H locs hP hS => ?_)
    refine lv_iload_n hx hb dX0_loseRecovery_37 rfl (lv_at hl 0 rfl) ?_
    exact pa_iretM hx hb hr hlk (by rw [if_neg hc]) hP hS dX0_loseRecovery_38
set_option maxHeartbeats 4000000 in
theorem m_spoil_1 (l : Launch) {D : va_G} {a : Nat → Nat} {cI cZ : ClassId} {da th : Nat → Nat} {ck : Nat → Int32} {rc : Nat} {re rt : Nat → Nat} {ms : Nat} {mb ur eq : Nat → Nat}  {bk pl bt : Int32} (hN : pa_N 11 a) (h : bk < 0 ∨ nI 6 ≤ bk) : Met l yX0_spoil (ws_ yX0_spoil cX0_spoil 5 (some .int)) (pa_rm 2 45) (PcX D clA [(cI, .int), (cZ, .boolean)] [.ref (a 0), .int bk, .int pl, .int bt] (WX a cI cZ pf_P pf_E da th ck rc re rt ms mb ur eq)) (QcXi (-1) D clA (WX a cI cZ pf_P pf_E da th ck rc re rt ms mb ur eq) (pa_A 11 a)) 0 0 (pa_A 11 a) := by
  refine pa_enter (by decide) (Nat.le_of_ble_eq_true rfl) (fun p e s m below meth c ls hx hb hr hlk hml hown hin hts hP hK hl => ?_)
  have hown : s.vm.findClass RX0 = some m.cls := hown
  have hl : lv_has ls 5 [(0, .ref (a 0)), (1, .int bk), (2, .int pl), (3, .int bt)] := hl
  have hS : va_S (pa_A 11 a) s.heap s.heap [] := va_S.rf
  refine lv_iload_n hx hb dX0_spoil_0 rfl (lv_at hl 1 rfl) ?_
  refine pa_callS (n := 1) ⟨hx, hb, hml, hown, hts⟩ (m_badBlock l (r := nI 1) (Or.inl ⟨rfl, h⟩)) (lw_S q76 q77 q18 q78) rfl rfl (by decide +kernel) ⟨by decide, by decide⟩ rfl hl.1 rfl (Nat.le_of_ble_eq_true rfl) dX0_spoil_1 ⟨Nat.le_refl _, Nat.le_refl _⟩ ?_
  refine na_if_eq (tgt := 9) hx hb dX0_spoil_4 (by decide) (by omega) (fun hc9 => absurd hc9 (by omega)) (fun hc => ?_)
  refine lv_iconst (v := (-1)) hx hb dX0_spoil_7 (by decide) ?_
  exact pa_iretM hx hb hr hlk rfl hP hS dX0_spoil_8
set_option maxHeartbeats 4000000 in
theorem m_spoil_2 (l : Launch) {D : va_G} {a : Nat → Nat} {cI cZ : ClassId} {da th : Nat → Nat} {ck : Nat → Int32} {rc : Nat} {re rt : Nat → Nat} {ms : Nat} {mb ur eq : Nat → Nat} {b : Nat} {pl bt : Int32} (hN : pa_N 11 a) (hb1 : b < 6) (h : pl < 0 ∨ nI 8 ≤ pl) : Met l yX0_spoil (ws_ yX0_spoil cX0_spoil 5 (some .int)) (pa_rm 2 45) (PcX D clA [(cI, .int), (cZ, .boolean)] [.ref (a 0), .int (nI b), .int pl, .int bt] (WX a cI cZ pf_P pf_E da th ck rc re rt ms mb ur eq)) (QcXi (-2) D clA (WX a cI cZ pf_P pf_E da th ck rc re rt ms mb ur eq) (pa_A 11 a)) 0 0 (pa_A 11 a) := by
  refine pa_enter (by decide) (Nat.le_of_ble_eq_true rfl) (fun p e s m below meth c ls hx hb hr hlk hml hown hin hts hP hK hl => ?_)
  have hown : s.vm.findClass RX0 = some m.cls := hown
  have hl : lv_has ls 5 [(0, .ref (a 0)), (1, .int (nI b)), (2, .int pl), (3, .int bt)] := hl
  have hS : va_S (pa_A 11 a) s.heap s.heap [] := va_S.rf
  refine lv_iload_n hx hb dX0_spoil_0 rfl (lv_at hl 1 rfl) ?_
  refine pa_callS (n := 1) ⟨hx, hb, hml, hown, hts⟩ (m_badBlock l (r := nI 0) (Or.inr ⟨rfl, _, hb1, rfl⟩)) (lw_S q76 q77 q18 q78) rfl rfl (by decide +kernel) ⟨by decide, by decide⟩ rfl hl.1 rfl (Nat.le_of_ble_eq_true rfl) dX0_spoil_1 ⟨Nat.le_refl _, Nat.le_refl _⟩ ?_
  refine na_if_eq (tgt := 9) hx hb dX0_spoil_4 (by decide) (by omega) (fun hc => ?_) (fun hc9 => absurd hc9 (by omega))
  refine lv_iload_n hx hb dX0_spoil_9 rfl (lv_at hl 2 rfl) ?_
  refine pa_callS (n := 1) ⟨hx, hb, hml, hown, hts⟩ (m_badPlace l (r := nI 1) (Or.inl ⟨rfl, h⟩)) (lw_S q79 q80 q18 q81) rfl rfl (by decide +kernel) ⟨by decide, by decide⟩ rfl hl.1 rfl (Nat.le_of_ble_eq_true rfl) dX0_spoil_10 ⟨Nat.le_refl _, Nat.le_refl _⟩ ?_
  refine na_if_eq (tgt := 19) hx hb dX0_spoil_13 (by decide) (by omega) (fun hc9 => absurd hc9 (by omega)) (fun hc => ?_)
  refine lv_bipush (v := (-2)) hx hb dX0_spoil_16 (by decide) ?_
  exact pa_iretM hx hb hr hlk rfl hP hS dX0_spoil_18
set_option maxHeartbeats 4000000 in
theorem m_spoil_3 (l : Launch) {D : va_G} {a : Nat → Nat} {cI cZ : ClassId} {da th : Nat → Nat} {ck : Nat → Int32} {rc : Nat} {re rt : Nat → Nat} {ms : Nat} {mb ur eq : Nat → Nat} {b i : Nat} {bt : Int32} (hN : pa_N 11 a) (hth : ∀ j, th j < 2) (hb1 : b < 6) (hi1 : i < 8) (h : pf_st da th ck b ≠ 0) : Met l yX0_spoil (ws_ yX0_spoil cX0_spoil 5 (some .int)) (pa_rm 2 45) (PcX D clA [(cI, .int), (cZ, .boolean)] [.ref (a 0), .int (nI b), .int (nI i), .int bt] (WX a cI cZ pf_P pf_E da th ck rc re rt ms mb ur eq)) (QcXi (-4) D clA (WX a cI cZ pf_P pf_E da th ck rc re rt ms mb ur eq) (pa_A 11 a)) 0 0 (pa_A 11 a) := by
  refine pa_enter (by decide) (Nat.le_of_ble_eq_true rfl) (fun p e s m below meth c ls hx hb hr hlk hml hown hin hts hP hK hl => ?_)
  have hown : s.vm.findClass RX0 = some m.cls := hown
  have hl : lv_has ls 5 [(0, .ref (a 0)), (1, .int (nI b)), (2, .int (nI i)), (3, .int bt)] := hl
  have hS : va_S (pa_A 11 a) s.heap s.heap [] := va_S.rf
  have hs := pf_st_lt da th ck b
  refine lv_iload_n hx hb dX0_spoil_0 rfl (lv_at hl 1 rfl) ?_
  refine pa_callS (n := 1) ⟨hx, hb, hml, hown, hts⟩ (m_badBlock l (r := nI 0) (Or.inr ⟨rfl, _, hb1, rfl⟩)) (lw_S q76 q77 q18 q78) rfl rfl (by decide +kernel) ⟨by decide, by decide⟩ rfl hl.1 rfl (Nat.le_of_ble_eq_true rfl) dX0_spoil_1 ⟨Nat.le_refl _, Nat.le_refl _⟩ ?_
  refine na_if_eq (tgt := 9) hx hb dX0_spoil_4 (by decide) (by omega) (fun hc => ?_) (fun hc9 => absurd hc9 (by omega))
  refine lv_iload_n hx hb dX0_spoil_9 rfl (lv_at hl 2 rfl) ?_
  refine pa_callS (n := 1) ⟨hx, hb, hml, hown, hts⟩ (m_badPlace l (r := nI 0) (Or.inr ⟨rfl, _, hi1, rfl⟩)) (lw_S q79 q80 q18 q81) rfl rfl (by decide +kernel) ⟨by decide, by decide⟩ rfl hl.1 rfl (Nat.le_of_ble_eq_true rfl) dX0_spoil_10 ⟨Nat.le_refl _, Nat.le_refl _⟩ ?_
  refine na_if_eq (tgt := 19) hx hb dX0_spoil_13 (by decide) (by omega) (fun hc => ?_) (fun hc9 => absurd hc9 (by omega))
  refine lv_aload_n hx hb dX0_spoil_19 rfl (lv_at hl 0 rfl) ?_
  refine lv_iload_n hx hb dX0_spoil_20 rfl (lv_at hl 1 rfl) ?_
  refine pa_callR (ci := 0) (n := 1) ⟨hx, hb, hml, hown, hts⟩ (m_stateOf l hth (by omega)) hK hP rfl rfl (lw_V q82 q84 qs1 q18 q85) rfl rfl (by decide +kernel) ⟨by decide, by decide⟩ rfl hl.1 rfl (Nat.le_of_ble_eq_true rfl) dX0_spoil_21 ⟨Nat.le_refl _, Nat.le_refl _⟩ ?_
  refine lv_istore (lv' := [(4, .int (nI (pf_st da th ck b))), (0, .ref (a 0)), (1, .int (nI b)), (2, .int (nI i)), (3, .int bt)]) hx hb dX0_spoil_24 hl (by decide) rfl (fun ls hl => ?_)
  refine lv_iload hx hb dX0_spoil_26 (lv_at hl 0 rfl) ?_
  refine na_if_eq (tgt := 34) hx hb dX0_spoil_28 (by decide) (by omega) (fun hc9 => absurd hc9 (by omega)) (fun hc => ?_)
  refine lv_bipush (v := (-4)) hx hb dX0_spoil_31 (by decide) ?_
  exact pa_iretM hx hb hr hlk rfl hP hS dX0_spoil_33
set_option maxHeartbeats 4000000 in
theorem m_spoil_4 (l : Launch) {D : va_G} {a : Nat → Nat} {cI cZ : ClassId} {da th : Nat → Nat} {ck : Nat → Int32} {rc : Nat} {re rt : Nat → Nat} {ms : Nat} {mb ur eq : Nat → Nat} {b i v : Nat} {bt : Int32} (hN : pa_N 11 a) (hth : ∀ j, th j < 2) (hb1 : b < 6) (hi1 : i < 8) (hv : bt &&& nI 255 = nI v) (h : pf_st da th ck b = 0) : Met l yX0_spoil (ws_ yX0_spoil cX0_spoil 5 (some .int)) (pa_rm 2 45) (PcX D clA [(cI, .int), (cZ, .boolean)] [.ref (a 0), .int (nI b), .int (nI i), .int bt] (WX a cI cZ pf_P pf_E da th ck rc re rt ms mb ur eq)) (QcXi (nI (pf_st (pa_u da (b * 8 + i) (da (b * 8 + i) ^^^ v)) th ck b)) D clA (WX a cI cZ pf_P pf_E (pa_u da (b * 8 + i) (da (b * 8 + i) ^^^ v)) th ck rc re rt ms mb ur eq) (pa_A 11 a)) 0 0 (pa_A 11 a) := by
  refine pa_enter (by decide) (Nat.le_of_ble_eq_true rfl) (fun p e s m below meth c ls hx hb hr hlk hml hown hin hts hP hK hl => ?_)
  have hown : s.vm.findClass RX0 = some m.cls := hown
  have hl : lv_has ls 5 [(0, .ref (a 0)), (1, .int (nI b)), (2, .int (nI i)), (3, .int bt)] := hl
  have hS : va_S (pa_A 11 a) s.heap s.heap [] := va_S.rf
  refine lv_iload_n hx hb dX0_spoil_0 rfl (lv_at hl 1 rfl) ?_
  refine pa_callS (n := 1) ⟨hx, hb, hml, hown, hts⟩ (m_badBlock l (r := nI 0) (Or.inr ⟨rfl, _, hb1, rfl⟩)) (lw_S q76 q77 q18 q78) rfl rfl (by decide +kernel) ⟨by decide, by decide⟩ rfl hl.1 rfl (Nat.le_of_ble_eq_true rfl) dX0_spoil_1 ⟨Nat.le_refl _, Nat.le_refl _⟩ ?_
  refine na_if_eq (tgt := 9) hx hb dX0_spoil_4 (by decide) (by omega) (fun hc => ?_) (fun hc9 => absurd hc9 (by omega))
  refine lv_iload_n hx hb dX0_spoil_9 rfl (lv_at hl 2 rfl) ?_
  refine pa_callS (n := 1) ⟨hx, hb, hml, hown, hts⟩ (m_badPlace l (r := nI 0) (Or.inr ⟨rfl, _, hi1, rfl⟩)) (lw_S q79 q80 q18 q81) rfl rfl (by decide +kernel) ⟨by decide, by decide⟩ rfl hl.1 rfl (Nat.le_of_ble_eq_true rfl) dX0_spoil_10 ⟨Nat.le_refl _, Nat.le_refl _⟩ ?_
  refine na_if_eq (tgt := 19) hx hb dX0_spoil_13 (by decide) (by omega) (fun hc => ?_) (fun hc9 => absurd hc9 (by omega))
  refine lv_aload_n hx hb dX0_spoil_19 rfl (lv_at hl 0 rfl) ?_
  refine lv_iload_n hx hb dX0_spoil_20 rfl (lv_at hl 1 rfl) ?_
  refine pa_callR (ci := 0) (n := 1) ⟨hx, hb, hml, hown, hts⟩ (m_stateOf l hth (by omega)) hK hP rfl rfl (lw_V q82 q84 qs1 q18 q85) rfl rfl (by decide +kernel) ⟨by decide, by decide⟩ rfl hl.1 rfl (Nat.le_of_ble_eq_true rfl) dX0_spoil_21 ⟨Nat.le_refl _, Nat.le_refl _⟩ ?_
  refine lv_istore (lv' := [(4, .int (nI (pf_st da th ck b))), (0, .ref (a 0)), (1, .int (nI b)), (2, .int (nI i)), (3, .int bt)]) hx hb dX0_spoil_24 hl (by decide) rfl (fun ls hl => ?_)
  refine lv_iload hx hb dX0_spoil_26 (lv_at hl 0 rfl) ?_
  refine na_if_eq (tgt := 34) hx hb dX0_spoil_28 (by decide) (by omega) (fun hc => ?_) (fun hc9 => absurd hc9 (by omega))
  refine lv_aload_n hx hb dX0_spoil_34 rfl (lv_at hl 1 rfl) ?_
  refine x_get hx hb hts hown hK hP rfl 2 (by decide) q35 rfl rfl dX0_spoil_35 ?_
  refine lv_iload_n hx hb dX0_spoil_38 rfl (lv_at hl 2 rfl) ?_
  refine lv_bipush (v := nI 8) hx hb dX0_spoil_39 (by decide) ?_
  refine na_mul hx hb dX0_spoil_41 ?_
  refine lv_iload_n hx hb dX0_spoil_42 rfl (lv_at hl 3 rfl) ?_
  refine na_add hx hb dX0_spoil_43 ?_
  refine lv_dup2_11 hx hb dX0_spoil_44 rfl rfl ?_
  refine ra_ld hx hb hK hP 3 0 rfl rfl (by omega) (by decide) dX0_spoil_45 ?_
  refine lv_iload_n hx hb dX0_spoil_46 rfl (lv_at hl 4 rfl) ?_
  refine lv_sipush (v := nI 255) hx hb dX0_spoil_47 (by decide) ?_
  refine lv_iand hx hb dX0_spoil_50 ?_
  refine pa_top (y := nI v) hv ?_
  refine na_xor hx hb dX0_spoil_51 ?_
  refine ra_st (ws' := WX a cI cZ pf_P pf_E (pa_u da ((b * 8) + i) ((da ((b * 8) + i)) ^^^ v)) th ck rc re rt ms mb ur eq) hx hb hK hP (WX_D hN) hS 3 0 rfl rfl (by omega) (by decide) dX0_spoil_52 rfl (fun H locs hP hS => ?_)
  refine lv_aload_n hx hb dX0_spoil_53 rfl (lv_at hl 1 rfl) ?_
  refine lv_iload_n hx hb dX0_spoil_54 rfl (lv_at hl 2 rfl) ?_
  refine pa_callR (ci := 0) (n := 1) ⟨hx, hb, hml, hown, hts⟩ (m_stateOf l hth (by omega)) hK hP rfl rfl (lw_V q82 q84 qs1 q18 q85) rfl rfl (by decide +kernel) ⟨by decide, by decide⟩ rfl hl.1 rfl (Nat.le_of_ble_eq_true rfl) dX0_spoil_55 ⟨Nat.le_refl _, Nat.le_refl _⟩ ?_
  exact pa_iretM hx hb hr hlk rfl hP hS dX0_spoil_58
set_option maxHeartbeats 4000000 in
theorem m_read_1 (l : Launch) {D : va_G} {a : Nat → Nat} {cI cZ : ClassId} {da th : Nat → Nat} {ck : Nat → Int32} {rc : Nat} {re rt : Nat → Nat} {ms : Nat} {mb ur eq : Nat → Nat}  {bk pl : Int32} (h : bk < 0 ∨ nI 6 ≤ bk) : Met l yX0_read (ws_ yX0_read cX0_read 4 (some .int)) (pa_rm 2 45) (PcX D clA [(cI, .int), (cZ, .boolean)] [.ref (a 0), .int bk, .int pl] (WX a cI cZ pf_P pf_E da th ck rc re rt ms mb ur eq)) (QcRead (-1)) 0 0 (fun _ => False) := by
  refine pa_enter (by decide) (Nat.le_of_ble_eq_true rfl) (fun p e s m below meth c ls hx hb hr hlk hml hown hin hts hP hK hl => ?_)
  have hown : s.vm.findClass RX0 = some m.cls := hown
  have hl : lv_has ls 4 [(0, .ref (a 0)), (1, .int bk), (2, .int pl)] := hl
  refine lv_iload_n hx hb dX0_read_0 rfl (lv_at hl 1 rfl) ?_
  refine pa_callS (n := 1) ⟨hx, hb, hml, hown, hts⟩ (m_badBlock l (r := nI 1) (Or.inl ⟨rfl, h⟩)) (lw_S q76 q77 q18 q78) rfl rfl (by decide +kernel) ⟨by decide, by decide⟩ rfl hl.1 rfl (Nat.le_of_ble_eq_true rfl) dX0_read_1 ⟨Nat.le_refl _, Nat.le_refl _⟩ ?_
  refine na_if_eq (tgt := 9) hx hb dX0_read_4 (by decide) (by omega) (fun hc9 => absurd hc9 (by omega)) (fun hc => ?_)
  refine lv_iconst (v := (-1)) hx hb dX0_read_7 (by decide) ?_
  exact pa_iretR hx hb hr hlk rfl dX0_read_8
set_option maxHeartbeats 4000000 in
theorem m_read_2 (l : Launch) {D : va_G} {a : Nat → Nat} {cI cZ : ClassId} {da th : Nat → Nat} {ck : Nat → Int32} {rc : Nat} {re rt : Nat → Nat} {ms : Nat} {mb ur eq : Nat → Nat} {b : Nat} {pl : Int32} (hb1 : b < 6) (h : pl < 0 ∨ nI 8 ≤ pl) : Met l yX0_read (ws_ yX0_read cX0_read 4 (some .int)) (pa_rm 2 45) (PcX D clA [(cI, .int), (cZ, .boolean)] [.ref (a 0), .int (nI b), .int pl] (WX a cI cZ pf_P pf_E da th ck rc re rt ms mb ur eq)) (QcRead (-2)) 0 0 (fun _ => False) := by
  refine pa_enter (by decide) (Nat.le_of_ble_eq_true rfl) (fun p e s m below meth c ls hx hb hr hlk hml hown hin hts hP hK hl => ?_)
  have hown : s.vm.findClass RX0 = some m.cls := hown
  have hl : lv_has ls 4 [(0, .ref (a 0)), (1, .int (nI b)), (2, .int pl)] := hl
  refine lv_iload_n hx hb dX0_read_0 rfl (lv_at hl 1 rfl) ?_
  refine pa_callS (n := 1) ⟨hx, hb, hml, hown, hts⟩ (m_badBlock l (r := nI 0) (Or.inr ⟨rfl, _, hb1, rfl⟩)) (lw_S q76 q77 q18 q78) rfl rfl (by decide +kernel) ⟨by decide, by decide⟩ rfl hl.1 rfl (Nat.le_of_ble_eq_true rfl) dX0_read_1 ⟨Nat.le_refl _, Nat.le_refl _⟩ ?_
  refine na_if_eq (tgt := 9) hx hb dX0_read_4 (by decide) (by omega) (fun hc => ?_) (fun hc9 => absurd hc9 (by omega))
  refine lv_iload_n hx hb dX0_read_9 rfl (lv_at hl 2 rfl) ?_
  refine pa_callS (n := 1) ⟨hx, hb, hml, hown, hts⟩ (m_badPlace l (r := nI 1) (Or.inl ⟨rfl, h⟩)) (lw_S q79 q80 q18 q81) rfl rfl (by decide +kernel) ⟨by decide, by decide⟩ rfl hl.1 rfl (Nat.le_of_ble_eq_true rfl) dX0_read_10 ⟨Nat.le_refl _, Nat.le_refl _⟩ ?_
  refine na_if_eq (tgt := 19) hx hb dX0_read_13 (by decide) (by omega) (fun hc9 => absurd hc9 (by omega)) (fun hc => ?_)
  refine lv_bipush (v := (-2)) hx hb dX0_read_16 (by decide) ?_
  exact pa_iretR hx hb hr hlk rfl dX0_read_18
set_option maxHeartbeats 4000000 in
theorem m_read_3 (l : Launch) {D : va_G} {a : Nat → Nat} {cI cZ : ClassId} {da th : Nat → Nat} {ck : Nat → Int32} {rc : Nat} {re rt : Nat → Nat} {ms : Nat} {mb ur eq : Nat → Nat} {b i : Nat}  (hth : ∀ j, th j < 2) (hb1 : b < 6) (hi1 : i < 8) (h : pf_st da th ck b ≠ 0) : Met l yX0_read (ws_ yX0_read cX0_read 4 (some .int)) (pa_rm 2 45) (PcX D clA [(cI, .int), (cZ, .boolean)] [.ref (a 0), .int (nI b), .int (nI i)] (WX a cI cZ pf_P pf_E da th ck rc re rt ms mb ur eq)) (QcRead (-4)) 0 0 (fun _ => False) := by
  refine pa_enter (by decide) (Nat.le_of_ble_eq_true rfl) (fun p e s m below meth c ls hx hb hr hlk hml hown hin hts hP hK hl => ?_)
  have hown : s.vm.findClass RX0 = some m.cls := hown
  have hl : lv_has ls 4 [(0, .ref (a 0)), (1, .int (nI b)), (2, .int (nI i))] := hl
  have hs := pf_st_lt da th ck b
  refine lv_iload_n hx hb dX0_read_0 rfl (lv_at hl 1 rfl) ?_
  refine pa_callS (n := 1) ⟨hx, hb, hml, hown, hts⟩ (m_badBlock l (r := nI 0) (Or.inr ⟨rfl, _, hb1, rfl⟩)) (lw_S q76 q77 q18 q78) rfl rfl (by decide +kernel) ⟨by decide, by decide⟩ rfl hl.1 rfl (Nat.le_of_ble_eq_true rfl) dX0_read_1 ⟨Nat.le_refl _, Nat.le_refl _⟩ ?_
  refine na_if_eq (tgt := 9) hx hb dX0_read_4 (by decide) (by omega) (fun hc => ?_) (fun hc9 => absurd hc9 (by omega))
  refine lv_iload_n hx hb dX0_read_9 rfl (lv_at hl 2 rfl) ?_
  refine pa_callS (n := 1) ⟨hx, hb, hml, hown, hts⟩ (m_badPlace l (r := nI 0) (Or.inr ⟨rfl, _, hi1, rfl⟩)) (lw_S q79 q80 q18 q81) rfl rfl (by decide +kernel) ⟨by decide, by decide⟩ rfl hl.1 rfl (Nat.le_of_ble_eq_true rfl) dX0_read_10 ⟨Nat.le_refl _, Nat.le_refl _⟩ ?_
  refine na_if_eq (tgt := 19) hx hb dX0_read_13 (by decide) (by omega) (fun hc => ?_) (fun hc9 => absurd hc9 (by omega))
  refine lv_aload_n hx hb dX0_read_19 rfl (lv_at hl 0 rfl) ?_
  refine lv_iload_n hx hb dX0_read_20 rfl (lv_at hl 1 rfl) ?_
  refine pa_callR (ci := 0) (n := 1) ⟨hx, hb, hml, hown, hts⟩ (m_stateOf l hth (by omega)) hK hP rfl rfl (lw_V q82 q84 qs1 q18 q85) rfl rfl (by decide +kernel) ⟨by decide, by decide⟩ rfl hl.1 rfl (Nat.le_of_ble_eq_true rfl) dX0_read_21 ⟨Nat.le_refl _, Nat.le_refl _⟩ ?_
  refine lv_istore_n (lv' := [(3, .int (nI (pf_st da th ck b))), (0, .ref (a 0)), (1, .int (nI b)), (2, .int (nI i))]) hx hb dX0_read_24 rfl hl (by decide) rfl (fun ls hl => ?_)
  refine lv_iload_n hx hb dX0_read_25 rfl (lv_at hl 0 rfl) ?_
  refine na_if_ne (tgt := 43) hx hb dX0_read_26 (by decide) (by omega) (fun hc => ?_) (fun hc9 => absurd hc9 (by omega))
  refine lv_bipush (v := (-4)) hx hb dX0_read_43 (by decide) ?_
  exact pa_iretR hx hb hr hlk rfl dX0_read_45
set_option maxHeartbeats 4000000 in
theorem m_read_4 (l : Launch) {D : va_G} {a : Nat → Nat} {cI cZ : ClassId} {da th : Nat → Nat} {ck : Nat → Int32} {rc : Nat} {re rt : Nat → Nat} {ms : Nat} {mb ur eq : Nat → Nat} {b i : Nat}  (hth : ∀ j, th j < 2) (hb1 : b < 6) (hi1 : i < 8) (h : pf_st da th ck b = 0) : Met l yX0_read (ws_ yX0_read cX0_read 4 (some .int)) (pa_rm 2 45) (PcX D clA [(cI, .int), (cZ, .boolean)] [.ref (a 0), .int (nI b), .int (nI i)] (WX a cI cZ pf_P pf_E da th ck rc re rt ms mb ur eq)) (QcRead (nI (da (b * 8 + i)))) 0 0 (fun _ => False) := by
  refine pa_enter (by decide) (Nat.le_of_ble_eq_true rfl) (fun p e s m below meth c ls hx hb hr hlk hml hown hin hts hP hK hl => ?_)
  have hown : s.vm.findClass RX0 = some m.cls := hown
  have hl : lv_has ls 4 [(0, .ref (a 0)), (1, .int (nI b)), (2, .int (nI i))] := hl
  refine lv_iload_n hx hb dX0_read_0 rfl (lv_at hl 1 rfl) ?_
  refine pa_callS (n := 1) ⟨hx, hb, hml, hown, hts⟩ (m_badBlock l (r := nI 0) (Or.inr ⟨rfl, _, hb1, rfl⟩)) (lw_S q76 q77 q18 q78) rfl rfl (by decide +kernel) ⟨by decide, by decide⟩ rfl hl.1 rfl (Nat.le_of_ble_eq_true rfl) dX0_read_1 ⟨Nat.le_refl _, Nat.le_refl _⟩ ?_
  refine na_if_eq (tgt := 9) hx hb dX0_read_4 (by decide) (by omega) (fun hc => ?_) (fun hc9 => absurd hc9 (by omega))
  refine lv_iload_n hx hb dX0_read_9 rfl (lv_at hl 2 rfl) ?_
  refine pa_callS (n := 1) ⟨hx, hb, hml, hown, hts⟩ (m_badPlace l (r := nI 0) (Or.inr ⟨rfl, _, hi1, rfl⟩)) (lw_S q79 q80 q18 q81) rfl rfl (by decide +kernel) ⟨by decide, by decide⟩ rfl hl.1 rfl (Nat.le_of_ble_eq_true rfl) dX0_read_10 ⟨Nat.le_refl _, Nat.le_refl _⟩ ?_
  refine na_if_eq (tgt := 19) hx hb dX0_read_13 (by decide) (by omega) (fun hc => ?_) (fun hc9 => absurd hc9 (by omega))
  refine lv_aload_n hx hb dX0_read_19 rfl (lv_at hl 0 rfl) ?_
  refine lv_iload_n hx hb dX0_read_20 rfl (lv_at hl 1 rfl) ?_
  refine pa_callR (ci := 0) (n := 1) ⟨hx, hb, hml, hown, hts⟩ (m_stateOf l hth (by omega)) hK hP rfl rfl (lw_V q82 q84 qs1 q18 q85) rfl rfl (by decide +kernel) ⟨by decide, by decide⟩ rfl hl.1 rfl (Nat.le_of_ble_eq_true rfl) dX0_read_21 ⟨Nat.le_refl _, Nat.le_refl _⟩ ?_
  refine lv_istore_n (lv' := [(3, .int (nI (pf_st da th ck b))), (0, .ref (a 0)), (1, .int (nI b)), (2, .int (nI i))]) hx hb dX0_read_24 rfl hl (by decide) rfl (fun ls hl => ?_)
  refine lv_iload_n hx hb dX0_read_25 rfl (lv_at hl 0 rfl) ?_
  refine na_if_ne (tgt := 43) hx hb dX0_read_26 (by decide) (by omega) (fun hc9 => absurd hc9 (by omega)) (fun hc => ?_)
  refine lv_aload_n hx hb dX0_read_29 rfl (lv_at hl 1 rfl) ?_
  refine x_get hx hb hts hown hK hP rfl 2 (by decide) q35 rfl rfl dX0_read_30 ?_
  refine lv_iload_n hx hb dX0_read_33 rfl (lv_at hl 2 rfl) ?_
  refine lv_bipush (v := nI 8) hx hb dX0_read_34 (by decide) ?_
  refine na_mul hx hb dX0_read_36 ?_
  refine lv_iload_n hx hb dX0_read_37 rfl (lv_at hl 3 rfl) ?_
  refine na_add hx hb dX0_read_38 ?_
  refine ra_ld hx hb hK hP 3 0 rfl rfl (by omega) (by decide) dX0_read_39 ?_
  refine lv_goto (tgt := 45) hx hb dX0_read_40 (by decide) ?_
  exact pa_iretR hx hb hr hlk rfl dX0_read_45
set_option maxHeartbeats 4000000 in
theorem m_state_1 (l : Launch) {D : va_G} {a : Nat → Nat} {cI cZ : ClassId} {da th : Nat → Nat} {ck : Nat → Int32} {rc : Nat} {re rt : Nat → Nat} {ms : Nat} {mb ur eq : Nat → Nat}  {bk : Int32} (h : bk < 0 ∨ nI 6 ≤ bk) : Met l yX0_state (ws_ yX0_state cX0_state 2 (some .int)) (pa_rm 2 45) (PcX D clA [(cI, .int), (cZ, .boolean)] [.ref (a 0), .int bk] (WX a cI cZ pf_P pf_E da th ck rc re rt ms mb ur eq)) (QcRead (-1)) 0 0 (fun _ => False) := by
  refine pa_enter (by decide) (Nat.le_of_ble_eq_true rfl) (fun p e s m below meth c ls hx hb hr hlk hml hown hin hts hP hK hl => ?_)
  have hown : s.vm.findClass RX0 = some m.cls := hown
  have hl : lv_has ls 2 [(0, .ref (a 0)), (1, .int bk)] := hl
  refine lv_iload_n hx hb dX0_state_0 rfl (lv_at hl 1 rfl) ?_
  refine pa_callS (n := 1) ⟨hx, hb, hml, hown, hts⟩ (m_badBlock l (r := nI 1) (Or.inl ⟨rfl, h⟩)) (lw_S q76 q77 q18 q78) rfl rfl (by decide +kernel) ⟨by decide, by decide⟩ rfl hl.1 rfl (Nat.le_of_ble_eq_true rfl) dX0_state_1 ⟨Nat.le_refl _, Nat.le_refl _⟩ ?_
  refine na_if_eq (tgt := 11) hx hb dX0_state_4 (by decide) (by omega) (fun hc9 => absurd hc9 (by omega)) (fun hc => ?_)
  refine lv_iconst (v := (-1)) hx hb dX0_state_7 (by decide) ?_
  refine lv_goto (tgt := 16) hx hb dX0_state_8 (by decide) ?_
  exact pa_iretR hx hb hr hlk rfl dX0_state_16
set_option maxHeartbeats 4000000 in
theorem m_state_2 (l : Launch) {D : va_G} {a : Nat → Nat} {cI cZ : ClassId} {da th : Nat → Nat} {ck : Nat → Int32} {rc : Nat} {re rt : Nat → Nat} {ms : Nat} {mb ur eq : Nat → Nat} {b : Nat}  (hth : ∀ j, th j < 2) (hb1 : b < 6) : Met l yX0_state (ws_ yX0_state cX0_state 2 (some .int)) (pa_rm 2 45) (PcX D clA [(cI, .int), (cZ, .boolean)] [.ref (a 0), .int (nI b)] (WX a cI cZ pf_P pf_E da th ck rc re rt ms mb ur eq)) (QcRead (nI (pf_st da th ck b))) 0 0 (fun _ => False) := by
  refine pa_enter (by decide) (Nat.le_of_ble_eq_true rfl) (fun p e s m below meth c ls hx hb hr hlk hml hown hin hts hP hK hl => ?_)
  have hown : s.vm.findClass RX0 = some m.cls := hown
  have hl : lv_has ls 2 [(0, .ref (a 0)), (1, .int (nI b))] := hl
  refine lv_iload_n hx hb dX0_state_0 rfl (lv_at hl 1 rfl) ?_
  refine pa_callS (n := 1) ⟨hx, hb, hml, hown, hts⟩ (m_badBlock l (r := nI 0) (Or.inr ⟨rfl, _, hb1, rfl⟩)) (lw_S q76 q77 q18 q78) rfl rfl (by decide +kernel) ⟨by decide, by decide⟩ rfl hl.1 rfl (Nat.le_of_ble_eq_true rfl) dX0_state_1 ⟨Nat.le_refl _, Nat.le_refl _⟩ ?_
  refine na_if_eq (tgt := 11) hx hb dX0_state_4 (by decide) (by omega) (fun hc => ?_) (fun hc9 => absurd hc9 (by omega))
  refine lv_aload_n hx hb dX0_state_11 rfl (lv_at hl 0 rfl) ?_
  refine lv_iload_n hx hb dX0_state_12 rfl (lv_at hl 1 rfl) ?_
  refine pa_callR (ci := 0) (n := 1) ⟨hx, hb, hml, hown, hts⟩ (m_stateOf l hth (by omega)) hK hP rfl rfl (lw_V q82 q84 qs1 q18 q85) rfl rfl (by decide +kernel) ⟨by decide, by decide⟩ rfl hl.1 rfl (Nat.le_of_ble_eq_true rfl) dX0_state_13 ⟨Nat.le_refl _, Nat.le_refl _⟩ ?_
  exact pa_iretR hx hb hr hlk rfl dX0_state_16
set_option maxHeartbeats 4000000 in
theorem m_margin_1 (l : Launch) {D : va_G} {a : Nat → Nat} {cI cZ : ClassId} {da th : Nat → Nat} {ck : Nat → Int32} {rc : Nat} {re rt : Nat → Nat} {ms : Nat} {mb ur eq : Nat → Nat} (hth : ∀ j, th j < 2) (hrt : ∀ j, rt j < 2) (hrc : rc ≤ 4) (h : pf_good rt rc < pf_bad da th ck 6) : Met l yX0_margin (ws_ yX0_margin cX0_margin 4 (some .int)) (pa_rm 3 68) (PcX D clA [(cI, .int), (cZ, .boolean)] [.ref (a 0)] (WX a cI cZ pf_P pf_E da th ck rc re rt ms mb ur eq)) (QcRead (-6)) 0 0 (fun _ => False) := by
  refine pa_enter (by decide) (Nat.le_of_ble_eq_true rfl) (fun p e s m below meth c ls hx hb hr hlk hml hown hin hts hP hK hl => ?_)
  have hown : s.vm.findClass RX0 = some m.cls := hown
  have hl : lv_has ls 4 [(0, .ref (a 0))] := hl
  have h1 := pf_bad_le da th ck 6
  have h2 := pf_good_le rt rc
  refine lv_aload_n hx hb dX0_margin_0 rfl (lv_at hl 0 rfl) ?_
  refine pa_callR (ci := 0) (n := 0) ⟨hx, hb, hml, hown, hts⟩ (m_badBlocks l hth) hK hP rfl rfl (lw_V q102 q104 qs5 q18 q105) rfl rfl (by decide +kernel) ⟨by decide, by decide⟩ rfl hl.1 rfl (Nat.le_of_ble_eq_true rfl) dX0_margin_1 ⟨Nat.le_refl _, Nat.le_refl _⟩ ?_
  refine lv_istore_n (lv' := [(1, .int (nI (pf_bad da th ck 6))), (0, .ref (a 0))]) hx hb dX0_margin_4 rfl hl (by decide) rfl (fun ls hl => ?_)
  refine lv_aload_n hx hb dX0_margin_5 rfl (lv_at hl 1 rfl) ?_
  refine pa_callR (ci := 0) (n := 0) ⟨hx, hb, hml, hown, hts⟩ (m_goodRecoveries l hrt hrc) hK hP rfl rfl (lw_V q130 q132 qs8 q18 q133) rfl rfl (by decide +kernel) ⟨by decide, by decide⟩ rfl hl.1 rfl (Nat.le_of_ble_eq_true rfl) dX0_margin_6 ⟨Nat.le_refl _, Nat.le_refl _⟩ ?_
  refine lv_istore_n (lv' := [(2, .int (nI (pf_good rt rc))), (1, .int (nI (pf_bad da th ck 6))), (0, .ref (a 0))]) hx hb dX0_margin_9 rfl hl (by decide) rfl (fun ls hl => ?_)
  refine lv_iload_n hx hb dX0_margin_10 rfl (lv_at hl 1 rfl) ?_
  refine lv_iload_n hx hb dX0_margin_11 rfl (lv_at hl 0 rfl) ?_
  refine na_icmp_le (tgt := 18) hx hb dX0_margin_12 (by decide) (by omega) (by omega) (fun hc9 => absurd hc9 (by omega)) (fun hc => ?_)
  refine lv_bipush (v := (-6)) hx hb dX0_margin_15 (by decide) ?_
  exact pa_iretR hx hb hr hlk rfl dX0_margin_17
set_option maxHeartbeats 4000000 in
theorem m_margin_2 (l : Launch) {D : va_G} {a : Nat → Nat} {cI cZ : ClassId} {da th : Nat → Nat} {ck : Nat → Int32} {rc : Nat} {re rt : Nat → Nat} {ms : Nat} {mb ur eq : Nat → Nat} (hth : ∀ j, th j < 2) (hrt : ∀ j, rt j < 2) (hrc : rc ≤ 4) (h : pf_bad da th ck 6 ≤ pf_good rt rc) : Met l yX0_margin (ws_ yX0_margin cX0_margin 4 (some .int)) (pa_rm 3 68) (PcX D clA [(cI, .int), (cZ, .boolean)] [.ref (a 0)] (WX a cI cZ pf_P pf_E da th ck rc re rt ms mb ur eq)) (QcRead (nI (if pf_good rt rc - pf_bad da th ck 6 < 6 - pf_bad da th ck 6 then pf_good rt rc - pf_bad da th ck 6 else 6 - pf_bad da th ck 6))) 0 0 (fun _ => False) := by
  refine pa_enter (by decide) (Nat.le_of_ble_eq_true rfl) (fun p e s m below meth c ls hx hb hr hlk hml hown hin hts hP hK hl => ?_)
  have hown : s.vm.findClass RX0 = some m.cls := hown
  have hl : lv_has ls 4 [(0, .ref (a 0))] := hl
  have h1 := pf_bad_le da th ck 6
  have h2 := pf_good_le rt rc
  refine lv_aload_n hx hb dX0_margin_0 rfl (lv_at hl 0 rfl) ?_
  refine pa_callR (ci := 0) (n := 0) ⟨hx, hb, hml, hown, hts⟩ (m_badBlocks l hth) hK hP rfl rfl (lw_V q102 q104 qs5 q18 q105) rfl rfl (by decide +kernel) ⟨by decide, by decide⟩ rfl hl.1 rfl (Nat.le_of_ble_eq_true rfl) dX0_margin_1 ⟨Nat.le_refl _, Nat.le_refl _⟩ ?_
  refine lv_istore_n (lv' := [(1, .int (nI (pf_bad da th ck 6))), (0, .ref (a 0))]) hx hb dX0_margin_4 rfl hl (by decide) rfl (fun ls hl => ?_)
  refine lv_aload_n hx hb dX0_margin_5 rfl (lv_at hl 1 rfl) ?_
  refine pa_callR (ci := 0) (n := 0) ⟨hx, hb, hml, hown, hts⟩ (m_goodRecoveries l hrt hrc) hK hP rfl rfl (lw_V q130 q132 qs8 q18 q133) rfl rfl (by decide +kernel) ⟨by decide, by decide⟩ rfl hl.1 rfl (Nat.le_of_ble_eq_true rfl) dX0_margin_6 ⟨Nat.le_refl _, Nat.le_refl _⟩ ?_
  refine lv_istore_n (lv' := [(2, .int (nI (pf_good rt rc))), (1, .int (nI (pf_bad da th ck 6))), (0, .ref (a 0))]) hx hb dX0_margin_9 rfl hl (by decide) rfl (fun ls hl => ?_)
  refine lv_iload_n hx hb dX0_margin_10 rfl (lv_at hl 1 rfl) ?_
  refine lv_iload_n hx hb dX0_margin_11 rfl (lv_at hl 0 rfl) ?_
  refine na_icmp_le (tgt := 18) hx hb dX0_margin_12 (by decide) (by omega) (by omega) (fun hc => ?_) (fun hc9 => absurd hc9 (by omega))
  refine lv_bipush (v := nI 6) hx hb dX0_margin_18 (by decide) ?_
  refine lv_iload_n hx hb dX0_margin_20 rfl (lv_at hl 1 rfl) ?_
  refine na_sub hx hb dX0_margin_21 (by omega) ?_
  refine lv_istore_n (lv' := [(3, .int (nI (6 - (pf_bad da th ck 6)))), (2, .int (nI (pf_good rt rc))), (1, .int (nI (pf_bad da th ck 6))), (0, .ref (a 0))]) hx hb dX0_margin_22 rfl hl (by decide) rfl (fun ls hl => ?_)
  refine lv_iload_n hx hb dX0_margin_23 rfl (lv_at hl 1 rfl) ?_
  refine lv_iload_n hx hb dX0_margin_24 rfl (lv_at hl 2 rfl) ?_
  refine na_sub hx hb dX0_margin_25 (by omega) ?_
  refine lv_iload_n hx hb dX0_margin_26 rfl (lv_at hl 0 rfl) ?_
  refine na_icmp_ge (tgt := 36) hx hb dX0_margin_27 (by decide) (by omega) (by omega) (fun hc => ?_) (fun hc => ?_)
  · skip
    refine lv_iload_n hx hb dX0_margin_36 rfl (lv_at hl 0 rfl) ?_
    exact pa_iretR hx hb hr hlk (by rw [if_neg (by omega)]) dX0_margin_37
  · skip
    refine lv_iload_n hx hb dX0_margin_30 rfl (lv_at hl 1 rfl) ?_
    refine lv_iload_n hx hb dX0_margin_31 rfl (lv_at hl 2 rfl) ?_
    refine na_sub hx hb dX0_margin_32 (by omega) ?_
    refine lv_goto (tgt := 37) hx hb dX0_margin_33 (by decide) ?_
    exact pa_iretR hx hb hr hlk (by rw [if_pos hc]) dX0_margin_37
set_option maxHeartbeats 4000000 in
theorem m_giveUp (l : Launch) {D : va_G} {a : Nat → Nat} {cI cZ : ClassId} {da th : Nat → Nat} {ck : Nat → Int32} {rc : Nat} {re rt : Nat → Nat} {ms : Nat} {mb ur eq : Nat → Nat} {ms1 : Nat} {mb1 : Nat → Nat} (hN : pa_N 11 a) (hth : ∀ j, th j < 2) (hmb : ∀ j, mb j < 6) (e1 : ms1 = pf_bad da th ck 6) (e2 : mb1 = pf_lm da th ck mb 6) : Met l yX0_giveUp (ws_ yX0_giveUp cX0_giveUp 4 (some .int)) (pa_rm 3 67) (PcX D clA [(cI, .int), (cZ, .boolean)] [.ref (a 0)] (WX a cI cZ pf_P pf_E da th ck rc re rt ms mb ur eq)) (QcXi (nI ms1) D clA (WX a cI cZ pf_P pf_E (pf_qd mb1 (fun _ _ => 0) da ms1) (pf_qt mb1 th ms1) (pf_qc mb1 (fun _ _ => 0) da ck ms1) 0 re rt ms1 mb1 ur eq) (pa_A 11 a)) 0 0 (pa_A 11 a) := by
  refine pa_enter (by decide) (Nat.le_of_ble_eq_true rfl) (fun p e s m below meth c ls hx hb hr hlk hml hown hin hts hP hK hl => ?_)
  have hown : s.vm.findClass RX0 = some m.cls := hown
  have hl : lv_has ls 4 [(0, .ref (a 0))] := hl
  have hS : va_S (pa_A 11 a) s.heap s.heap [] := va_S.rf
  have h1 : ms1 ≤ 6 := by rw [e1]; exact pf_bad_le da th ck 6
  have hmb1 : ∀ j, mb1 j < 6 := by rw [e2]; exact pf_lm_lt hmb 6 (Nat.le_refl _)
  refine lv_aload_n hx hb dX0_giveUp_0 rfl (lv_at hl 0 rfl) ?_
  refine pa_callV (ci := 0) (n := 0) ⟨hx, hb, hml, hown, hts⟩ (m_listMissing l hN hth) hK hP hS (fun _ h => h) rfl rfl (lw_V q126 q128 qs7 q18 q129) rfl rfl (by decide +kernel) ⟨by decide, by decide⟩ rfl hl.1 rfl (Nat.le_of_ble_eq_true rfl) dX0_giveUp_1 ⟨Nat.le_refl _, Nat.le_refl _⟩ (fun H locs hP hS _ => ?_)
  have hP : va_P D clA (WX a cI cZ pf_P pf_E da th ck rc re rt ms1 mb1 ur eq) _ := (by rw [e1, e2]; exact hP)
  refine lv_iconst (v := nI 0) hx hb dX0_giveUp_4 (by decide) ?_
  refine lv_istore_n (lv' := [(1, .int (nI 0)), (0, .ref (a 0))]) hx hb dX0_giveUp_5 rfl hl (by decide) rfl (fun ls hl => ?_)
  refine pa_lpm (nL := 4) (fun j (x : (Nat → Nat) × (Nat → Nat) × (Nat → Int32)) => x.1 = pf_qd mb1 (fun _ _ => 0) da j ∧ x.2.1 = pf_qt mb1 th j ∧ x.2.2 = pf_qc mb1 (fun _ _ => 0) da ck j) (fun j (x : (Nat → Nat) × (Nat → Nat) × (Nat → Int32)) => [(0, .ref (a 0)), (1, .int (nI j))]) (fun j (x : (Nat → Nat) × (Nat → Nat) × (Nat → Int32)) => WX a cI cZ pf_P pf_E x.1 x.2.1 x.2.2 rc re rt ms1 mb1 ur eq) 0 ms1 (by omega) (da, th, ck) ⟨rfl, rfl, rfl⟩ (lv_sub hl [1, 0] rfl) hP hS (fun j x H locs ls hge hhi hI hl hP hS ih => ?_) (fun x H locs ls hI hl hP hS => ?_)
  · skip
    obtain ⟨f, t, u⟩ := x
    have hI : f = pf_qd mb1 (fun _ _ => 0) da j ∧ t = pf_qt mb1 th j ∧ u = pf_qc mb1 (fun _ _ => 0) da ck j := hI
    have hl : lv_has ls 4 [(0, .ref (a 0)), (1, .int (nI j))] := hl
    have hP : va_P D clA (WX a cI cZ pf_P pf_E f t u rc re rt ms1 mb1 ur eq) H := hP
    obtain ⟨hI1, hI2, hI3⟩ := hI
    have hmj := hmb1 j
    refine lv_iload_n hx hb dX0_giveUp_6 rfl (lv_at hl 1 rfl) ?_
    refine lv_aload_n hx hb dX0_giveUp_7 rfl (lv_at hl 0 rfl) ?_
    refine x_get hx hb hts hown hK hP rfl 8 (by decide) q41 rfl rfl dX0_giveUp_8 ?_
    refine na_icmp_ge (tgt := 71) hx hb dX0_giveUp_11 (by decide) (by omega) (by omega) (fun hc9 => absurd hc9 (by omega)) (fun hc => ?_)
    refine lv_aload_n hx hb dX0_giveUp_14 rfl (lv_at hl 0 rfl) ?_
    refine x_get hx hb hts hown hK hP rfl 9 (by decide) q42 rfl rfl dX0_giveUp_15 ?_
    refine lv_iload_n hx hb dX0_giveUp_18 rfl (lv_at hl 1 rfl) ?_
    refine ra_ld hx hb hK hP 8 0 rfl rfl (by omega) (by decide) dX0_giveUp_19 ?_
    refine lv_istore_n (lv' := [(2, .int (nI (mb1 j))), (0, .ref (a 0)), (1, .int (nI j))]) hx hb dX0_giveUp_20 rfl hl (by decide) rfl (fun ls hl => ?_)
    refine lv_iconst (v := nI 0) hx hb dX0_giveUp_21 (by decide) ?_
    refine lv_istore_n (lv' := [(3, .int (nI 0)), (2, .int (nI (mb1 j))), (0, .ref (a 0)), (1, .int (nI j))]) hx hb dX0_giveUp_22 rfl hl (by decide) rfl (fun ls hl => ?_)
    have hJ0 : True := trivial
    refine pa_lpm (nL := 4) (fun i (x : (Nat → Nat)) => x = pf_pb f (mb1 j) (fun _ => 0) i) (fun i (x : (Nat → Nat)) => [(0, .ref (a 0)), (1, .int (nI j)), (2, .int (nI (mb1 j))), (3, .int (nI i))]) (fun i (x : (Nat → Nat)) => WX a cI cZ pf_P pf_E x t u rc re rt ms1 mb1 ur eq) 0 8 (by omega) (f) rfl (lv_sub hl [2, 3, 1, 0] rfl) hP hS (fun i f2 H locs ls hgeJ hhiJ hIJ hl hP hS ihJ => ?_) (fun f2 H locs ls hIJ hl hP hS => ?_)
    · skip
      have hIJ : f2 = pf_pb f (mb1 j) (fun _ => 0) i := hIJ
      have hl : lv_has ls 4 [(0, .ref (a 0)), (1, .int (nI j)), (2, .int (nI (mb1 j))), (3, .int (nI i))] := hl
      have hP : va_P D clA (WX a cI cZ pf_P pf_E f2 t u rc re rt ms1 mb1 ur eq) H := hP
      refine lv_iload_n hx hb dX0_giveUp_23 rfl (lv_at hl 3 rfl) ?_
      refine lv_bipush (v := nI 8) hx hb dX0_giveUp_24 (by decide) ?_
      refine na_icmp_ge (tgt := 47) hx hb dX0_giveUp_26 (by decide) (by omega) (by omega) (fun hc9 => absurd hc9 (by omega)) (fun hc => ?_)
      refine lv_aload_n hx hb dX0_giveUp_29 rfl (lv_at hl 0 rfl) ?_
      refine x_get hx hb hts hown hK hP rfl 2 (by decide) q35 rfl rfl dX0_giveUp_30 ?_
      refine lv_iload_n hx hb dX0_giveUp_33 rfl (lv_at hl 2 rfl) ?_
      refine lv_bipush (v := nI 8) hx hb dX0_giveUp_34 (by decide) ?_
      refine na_mul hx hb dX0_giveUp_36 ?_
      refine lv_iload_n hx hb dX0_giveUp_37 rfl (lv_at hl 3 rfl) ?_
      refine na_add hx hb dX0_giveUp_38 ?_
      refine lv_iconst (v := nI 0) hx hb dX0_giveUp_39 (by decide) ?_
      refine ra_st (ws' := WX a cI cZ pf_P pf_E (pa_u f2 (((mb1 j) * 8) + i) 0) t u rc re rt ms1 mb1 ur eq) hx hb hK hP (WX_D hN) hS 3 0 rfl rfl (by omega) (by decide) dX0_giveUp_40 rfl (fun H locs hP hS => ?_)
      refine na_iinc (lv' := [(3, .int (nI (i + 1))), (0, .ref (a 0)), (1, .int (nI j)), (2, .int (nI (mb1 j)))]) hx hb dX0_giveUp_41 hl (k := 3) rfl (by decide) rfl (fun ls hl => ?_)
      refine lv_goto (tgt := 23) hx hb dX0_giveUp_44 (by decide) ?_
      exact ihJ (pa_u f2 (((mb1 j) * 8) + i) 0) _ _ _ (by rw [hIJ]; rfl) (lv_sub hl [1, 2, 3, 0] rfl) hP hS
    · skip
      have hIJ : f2 = pf_pb f (mb1 j) (fun _ => 0) 8 := hIJ
      have hl : lv_has ls 4 [(0, .ref (a 0)), (1, .int (nI j)), (2, .int (nI (mb1 j))), (3, .int (nI 8))] := hl
      have hP : va_P D clA (WX a cI cZ pf_P pf_E f2 t u rc re rt ms1 mb1 ur eq) H := hP
      refine lv_iload_n hx hb dX0_giveUp_23 rfl (lv_at hl 3 rfl) ?_
      refine lv_bipush (v := nI 8) hx hb dX0_giveUp_24 (by decide) ?_
      refine na_icmp_ge (tgt := 47) hx hb dX0_giveUp_26 (by decide) (by omega) (by omega) (fun hc => ?_) (fun hc9 => absurd hc9 (by omega))
      refine lv_aload_n hx hb dX0_giveUp_47 rfl (lv_at hl 0 rfl) ?_
      refine x_get hx hb hts hown hK hP rfl 3 (by decide) q36 rfl rfl dX0_giveUp_48 ?_
      refine lv_iload_n hx hb dX0_giveUp_51 rfl (lv_at hl 2 rfl) ?_
      refine lv_iconst (v := nI 1) hx hb dX0_giveUp_52 (by decide) ?_
      refine rz_st (ws' := WX a cI cZ pf_P pf_E f2 (pa_u t (mb1 j) 1) u rc re rt ms1 mb1 ur eq) hx hb hK hP (WX_D hN) hS 4 1 rfl rfl (by omega) (by decide) (by decide) dX0_giveUp_53 rfl (fun H locs hP hS => ?_)
      refine lv_aload_n hx hb dX0_giveUp_54 rfl (lv_at hl 0 rfl) ?_
      refine x_get hx hb hts hown hK hP rfl 4 (by decide) q37 rfl rfl dX0_giveUp_55 ?_
      refine lv_iload_n hx hb dX0_giveUp_58 rfl (lv_at hl 2 rfl) ?_
      refine lv_aload_n hx hb dX0_giveUp_59 rfl (lv_at hl 0 rfl) ?_
      refine lv_iload_n hx hb dX0_giveUp_60 rfl (lv_at hl 2 rfl) ?_
      refine pa_callR (ci := 0) (n := 1) ⟨hx, hb, hml, hown, hts⟩ (m_checkOf l (by omega)) hK hP rfl rfl (lw_V q28 q30 qs0 q18 q31) rfl rfl (by decide +kernel) ⟨by decide, by decide⟩ rfl hl.1 rfl (Nat.le_of_ble_eq_true rfl) dX0_giveUp_61 ⟨Nat.le_refl _, Nat.le_refl _⟩ ?_
      refine rk_st (ws' := WX a cI cZ pf_P pf_E f2 (pa_u t (mb1 j) 1) (upd u (mb1 j) (pf_sum f2 (mb1 j) 8)) rc re rt ms1 mb1 ur eq) hx hb hK hP (WX_D hN) hS 5 0 rfl rfl (by omega) (by decide) dX0_giveUp_64 rfl (fun H locs hP hS => ?_)
      refine na_iinc (lv' := [(1, .int (nI (j + 1))), (0, .ref (a 0)), (2, .int (nI (mb1 j))), (3, .int (nI 8))]) hx hb dX0_giveUp_65 hl (k := 1) rfl (by decide) rfl (fun ls hl => ?_)
      refine lv_goto (tgt := 6) hx hb dX0_giveUp_68 (by decide) ?_
      exact ih (f2, pa_u t (mb1 j) 1, upd u (mb1 j) (pf_sum f2 (mb1 j) 8)) _ _ _ ⟨by rw [hIJ, hI1]; rfl, by rw [hI2]; rfl, by rw [hIJ, hI1, hI3]; rfl⟩ (lv_sub hl [1, 0] rfl) hP hS
  · skip
    obtain ⟨f, t, u⟩ := x
    have hI : f = pf_qd mb1 (fun _ _ => 0) da ms1 ∧ t = pf_qt mb1 th ms1 ∧ u = pf_qc mb1 (fun _ _ => 0) da ck ms1 := hI
    have hl : lv_has ls 4 [(0, .ref (a 0)), (1, .int (nI ms1))] := hl
    have hP : va_P D clA (WX a cI cZ pf_P pf_E f t u rc re rt ms1 mb1 ur eq) H := hP
    refine lv_iload_n hx hb dX0_giveUp_6 rfl (lv_at hl 1 rfl) ?_
    refine lv_aload_n hx hb dX0_giveUp_7 rfl (lv_at hl 0 rfl) ?_
    refine x_get hx hb hts hown hK hP rfl 8 (by decide) q41 rfl rfl dX0_giveUp_8 ?_
    refine na_icmp_ge (tgt := 71) hx hb dX0_giveUp_11 (by decide) (by omega) (by omega) (fun hc => ?_) (fun hc9 => absurd hc9 (by omega))
    refine lv_aload_n hx hb dX0_giveUp_71 rfl (lv_at hl 0 rfl) ?_
    refine lv_iconst (v := nI 0) hx hb dX0_giveUp_72 (by decide) ?_
    refine x_put (ws' := WX a cI cZ pf_P pf_E f t u 0 re rt ms1 mb1 ur eq) hx hb hts hown hK hP (WX_D hN) hS rfl 5 (by decide) q38 rfl rfl (by decide +kernel) (Nat.le_of_ble_eq_true rfl) dX0_giveUp_73 rfl (fun H locs hP hS => ?_)
    refine lv_aload_n hx hb dX0_giveUp_76 rfl (lv_at hl 0 rfl) ?_
    refine x_get hx hb hts hown hK hP rfl 8 (by decide) q41 rfl rfl dX0_giveUp_77 ?_
    exact pa_iretM hx hb hr hlk rfl (by rw [hI.1, hI.2.1, hI.2.2] at hP; exact hP) hS dX0_giveUp_80
set_option maxHeartbeats 4000000 in
theorem m_repair_1 (l : Launch) {D : va_G} {a : Nat → Nat} {cI cZ : ClassId} {da th : Nat → Nat} {ck : Nat → Int32} {rc : Nat} {re rt : Nat → Nat} {ms : Nat} {mb ur eq : Nat → Nat} {ms1 : Nat} {mb1 : Nat → Nat} (hN : pa_N 11 a) (hth : ∀ j, th j < 2) (hrt : ∀ j, rt j < 2) (hrc : rc ≤ 4) (e1 : ms1 = pf_bad da th ck 6) (e2 : mb1 = pf_lm da th ck mb 6) (h : pf_good rt rc < ms1) : Met l yX0_repair (ws_ yX0_repair cX0_repair 3 (some .int)) (pa_rm 4 93) (PcX D clA [(cI, .int), (cZ, .boolean)] [.ref (a 0)] (WX a cI cZ pf_P pf_E da th ck rc re rt ms mb ur eq)) (QcXi (-6) D clA (WX a cI cZ pf_P pf_E da th ck rc re rt ms1 mb1 ur eq) (pa_A 11 a)) 0 0 (pa_A 11 a) := by
  refine pa_enter (by decide) (Nat.le_of_ble_eq_true rfl) (fun p e s m below meth c ls hx hb hr hlk hml hown hin hts hP hK hl => ?_)
  have hown : s.vm.findClass RX0 = some m.cls := hown
  have hl : lv_has ls 3 [(0, .ref (a 0))] := hl
  have hS : va_S (pa_A 11 a) s.heap s.heap [] := va_S.rf
  have h1 : ms1 ≤ 6 := by rw [e1]; exact pf_bad_le da th ck 6
  have h2 := pf_good_le rt rc
  refine lv_aload_n hx hb dX0_repair_0 rfl (lv_at hl 0 rfl) ?_
  refine pa_callV (ci := 0) (n := 0) ⟨hx, hb, hml, hown, hts⟩ (m_listMissing l hN hth) hK hP hS (fun _ h => h) rfl rfl (lw_V q126 q128 qs7 q18 q129) rfl rfl (by decide +kernel) ⟨by decide, by decide⟩ rfl hl.1 rfl (Nat.le_of_ble_eq_true rfl) dX0_repair_1 ⟨Nat.le_refl _, Nat.le_refl _⟩ (fun H locs hP hS _ => ?_)
  have hP : va_P D clA (WX a cI cZ pf_P pf_E da th ck rc re rt ms1 mb1 ur eq) _ := (by rw [e1, e2]; exact hP)
  refine lv_aload_n hx hb dX0_repair_4 rfl (lv_at hl 0 rfl) ?_
  refine pa_callR (ci := 0) (n := 0) ⟨hx, hb, hml, hown, hts⟩ (m_goodRecoveries l hrt hrc) hK hP rfl rfl (lw_V q130 q132 qs8 q18 q133) rfl rfl (by decide +kernel) ⟨by decide, by decide⟩ rfl hl.1 rfl (Nat.le_of_ble_eq_true rfl) dX0_repair_5 ⟨Nat.le_refl _, Nat.le_refl _⟩ ?_
  refine lv_istore_n (lv' := [(1, .int (nI (pf_good rt rc))), (0, .ref (a 0))]) hx hb dX0_repair_8 rfl hl (by decide) rfl (fun ls hl => ?_)
  refine lv_aload_n hx hb dX0_repair_9 rfl (lv_at hl 1 rfl) ?_
  refine x_get hx hb hts hown hK hP rfl 8 (by decide) q41 rfl rfl dX0_repair_10 ?_
  refine lv_iload_n hx hb dX0_repair_13 rfl (lv_at hl 0 rfl) ?_
  refine na_icmp_le (tgt := 20) hx hb dX0_repair_14 (by decide) (by omega) (by omega) (fun hc9 => absurd hc9 (by omega)) (fun hc => ?_)
  refine lv_bipush (v := (-6)) hx hb dX0_repair_17 (by decide) ?_
  exact pa_iretM hx hb hr hlk rfl hP hS dX0_repair_19
set_option maxHeartbeats 4000000 in
theorem m_repair_2 (l : Launch) {D : va_G} {a : Nat → Nat} {cI cZ : ClassId} {da th : Nat → Nat} {ck : Nat → Int32} {rc : Nat} {re rt : Nat → Nat} {ms : Nat} {mb ur eq : Nat → Nat} {ms1 : Nat} {mb1 : Nat → Nat} (hN : pa_N 11 a) (hth : ∀ j, th j < 2) (hrt : ∀ j, rt j < 2) (hrc : rc ≤ 4) (e1 : ms1 = pf_bad da th ck 6) (e2 : mb1 = pf_lm da th ck mb 6) {ur1 eq1 eq2 : Nat → Nat} (hda : ∀ j, da j < 256) (hre : ∀ j, re j < 256) (heq : ∀ j, eq j < 256) (hmb : ∀ j, mb j < 6) (hur : ∀ j, ur j < 4) (h : ms1 ≤ pf_good rt rc) (e3 : ur1 = pf_us rt ms1 ur rc) (e4 : eq1 = pf_se da re ms1 mb1 ur1 eq ms1) (e5 : eq2 = pf_ro ms1 eq1 ms1) (hpv : ∀ k, k < ms1 → pf_ro ms1 eq1 k (k * 12 + k) ≠ 0) : Met l yX0_repair (ws_ yX0_repair cX0_repair 3 (some .int)) (pa_rm 4 93) (PcX D clA [(cI, .int), (cZ, .boolean)] [.ref (a 0)] (WX a cI cZ pf_P pf_E da th ck rc re rt ms mb ur eq)) (QcXi (nI ms1) D clA (WX a cI cZ pf_P pf_E (pf_qd mb1 (fun j z => eq2 (j * 12 + ms1 + z)) da ms1) (pf_qt mb1 th ms1) (pf_qc mb1 (fun j z => eq2 (j * 12 + ms1 + z)) da ck ms1) rc (pf_pr (pf_qd mb1 (fun j z => eq2 (j * 12 + ms1 + z)) da ms1) re rc) (pf_pt rt rc) ms1 mb1 ur1 eq2) (pa_A 11 a)) 0 0 (pa_A 11 a) := by
  refine pa_enter (by decide) (Nat.le_of_ble_eq_true rfl) (fun p e s m below meth c ls hx hb hr hlk hml hown hin hts hP hK hl => ?_)
  have hown : s.vm.findClass RX0 = some m.cls := hown
  have hl : lv_has ls 3 [(0, .ref (a 0))] := hl
  have hS : va_S (pa_A 11 a) s.heap s.heap [] := va_S.rf
  have h2 := pf_good_le rt rc
  have hms : ms1 ≤ 4 := by omega
  have hmb1 : ∀ j, mb1 j < 6 := by rw [e2]; exact pf_lm_lt hmb 6 (Nat.le_refl _)
  have heq1 : ∀ j, eq1 j < 256 := by rw [e4]; exact pf_se_lt hre heq ms1
  have heq2 : ∀ j, eq2 j < 256 := by rw [e5]; exact pf_ro_lt heq1 ms1
  refine lv_aload_n hx hb dX0_repair_0 rfl (lv_at hl 0 rfl) ?_
  refine pa_callV (ci := 0) (n := 0) ⟨hx, hb, hml, hown, hts⟩ (m_listMissing l hN hth) hK hP hS (fun _ h => h) rfl rfl (lw_V q126 q128 qs7 q18 q129) rfl rfl (by decide +kernel) ⟨by decide, by decide⟩ rfl hl.1 rfl (Nat.le_of_ble_eq_true rfl) dX0_repair_1 ⟨Nat.le_refl _, Nat.le_refl _⟩ (fun H locs hP hS _ => ?_)
  have hP : va_P D clA (WX a cI cZ pf_P pf_E da th ck rc re rt ms1 mb1 ur eq) _ := (by rw [e1, e2]; exact hP)
  refine lv_aload_n hx hb dX0_repair_4 rfl (lv_at hl 0 rfl) ?_
  refine pa_callR (ci := 0) (n := 0) ⟨hx, hb, hml, hown, hts⟩ (m_goodRecoveries l hrt hrc) hK hP rfl rfl (lw_V q130 q132 qs8 q18 q133) rfl rfl (by decide +kernel) ⟨by decide, by decide⟩ rfl hl.1 rfl (Nat.le_of_ble_eq_true rfl) dX0_repair_5 ⟨Nat.le_refl _, Nat.le_refl _⟩ ?_
  refine lv_istore_n (lv' := [(1, .int (nI (pf_good rt rc))), (0, .ref (a 0))]) hx hb dX0_repair_8 rfl hl (by decide) rfl (fun ls hl => ?_)
  refine lv_aload_n hx hb dX0_repair_9 rfl (lv_at hl 1 rfl) ?_
  refine x_get hx hb hts hown hK hP rfl 8 (by decide) q41 rfl rfl dX0_repair_10 ?_
  refine lv_iload_n hx hb dX0_repair_13 rfl (lv_at hl 0 rfl) ?_
  refine na_icmp_le (tgt := 20) hx hb dX0_repair_14 (by decide) (by omega) (by omega) (fun hc => ?_) (fun hc9 => absurd hc9 (by omega))
  refine lv_aload_n hx hb dX0_repair_20 rfl (lv_at hl 1 rfl) ?_
  refine pa_callV (ci := 0) (n := 0) ⟨hx, hb, hml, hown, hts⟩ (m_setEquations l hN hda hms hmb1 hur hrc hrt) hK hP hS (fun _ h => h) rfl rfl (lw_V q134 q136 qs9 q18 q137) rfl rfl (by decide +kernel) ⟨by decide, by decide⟩ rfl hl.1 rfl (Nat.le_of_ble_eq_true rfl) dX0_repair_21 ⟨Nat.le_refl _, Nat.le_refl _⟩ (fun H locs hP hS _ => ?_)
  have hP : va_P D clA (WX a cI cZ pf_P pf_E da th ck rc re rt ms1 mb1 ur1 eq1) _ := (by rw [e4, e3]; exact hP)
  refine lv_iconst (v := nI 0) hx hb dX0_repair_24 (by decide) ?_
  refine lv_istore_n (lv' := [(2, .int (nI 0)), (1, .int (nI (pf_good rt rc))), (0, .ref (a 0))]) hx hb dX0_repair_25 rfl hl (by decide) rfl (fun ls hl => ?_)
  refine pa_lpm (nL := 3) (fun i (x : (Nat → Nat)) => x = pf_ro ms1 eq1 i) (fun i (x : (Nat → Nat)) => [(0, .ref (a 0)), (2, .int (nI i))]) (fun i (x : (Nat → Nat)) => WX a cI cZ pf_P pf_E da th ck rc re rt ms1 mb1 ur1 x) 0 ms1 (by omega) (eq1) rfl (lv_sub hl [2, 0] rfl) hP hS (fun i f H locs ls hge hhi hI hl hP hS ih => ?_) (fun f H locs ls hI hl hP hS => ?_)
  · skip
    have hI : f = pf_ro ms1 eq1 i := hI
    have hl : lv_has ls 3 [(0, .ref (a 0)), (2, .int (nI i))] := hl
    have hP : va_P D clA (WX a cI cZ pf_P pf_E da th ck rc re rt ms1 mb1 ur1 f) H := hP
    refine lv_iload_n hx hb dX0_repair_26 rfl (lv_at hl 1 rfl) ?_
    refine lv_aload_n hx hb dX0_repair_27 rfl (lv_at hl 0 rfl) ?_
    refine x_get hx hb hts hown hK hP rfl 8 (by decide) q41 rfl rfl dX0_repair_28 ?_
    refine na_icmp_ge (tgt := 45) hx hb dX0_repair_31 (by decide) (by omega) (by omega) (fun hc9 => absurd hc9 (by omega)) (fun hc => ?_)
    refine lv_aload_n hx hb dX0_repair_34 rfl (lv_at hl 0 rfl) ?_
    refine lv_iload_n hx hb dX0_repair_35 rfl (lv_at hl 1 rfl) ?_
    refine pa_callV (ci := 0) (n := 1) ⟨hx, hb, hml, hown, hts⟩ (m_eliminate l hN (by rw [hI]; exact pf_ro_lt heq1 _) hms (by omega) (by rw [hI]; exact hpv _ hhi)) hK hP hS (fun _ h => h) rfl rfl (lw_V q146 q148 qs12 q18 q149) rfl rfl (by decide +kernel) ⟨by decide, by decide⟩ rfl hl.1 rfl (Nat.le_of_ble_eq_true rfl) dX0_repair_36 ⟨Nat.le_refl _, Nat.le_refl _⟩ (fun H locs hP hS _ => ?_)
    refine na_iinc (lv' := [(2, .int (nI (i + 1))), (0, .ref (a 0))]) hx hb dX0_repair_39 hl (k := 1) rfl (by decide) rfl (fun ls hl => ?_)
    refine lv_goto (tgt := 26) hx hb dX0_repair_42 (by decide) ?_
    exact ih (pf_el ms1 i f) _ _ _ (by rw [hI]; rfl) (lv_sub hl [1, 0] rfl) hP hS
  · skip
    have hI : f = pf_ro ms1 eq1 ms1 := hI
    have hl : lv_has ls 3 [(0, .ref (a 0)), (2, .int (nI ms1))] := hl
    have hP : va_P D clA (WX a cI cZ pf_P pf_E da th ck rc re rt ms1 mb1 ur1 f) H := hP
    refine lv_iload_n hx hb dX0_repair_26 rfl (lv_at hl 1 rfl) ?_
    refine lv_aload_n hx hb dX0_repair_27 rfl (lv_at hl 0 rfl) ?_
    refine x_get hx hb hts hown hK hP rfl 8 (by decide) q41 rfl rfl dX0_repair_28 ?_
    refine na_icmp_ge (tgt := 45) hx hb dX0_repair_31 (by decide) (by omega) (by omega) (fun hc => ?_) (fun hc9 => absurd hc9 (by omega))
    have hP : va_P D clA (WX a cI cZ pf_P pf_E da th ck rc re rt ms1 mb1 ur1 eq2) _ := (by rw [hI, ← e5] at hP; exact hP)
    refine lv_iconst (v := nI 0) hx hb dX0_repair_45 (by decide) ?_
    refine lv_istore_n (lv' := [(2, .int (nI 0)), (0, .ref (a 0))]) hx hb dX0_repair_46 rfl hl (by decide) rfl (fun ls hl => ?_)
    refine pa_lpm (nL := 3) (fun i (x : (Nat → Nat) × (Nat → Nat) × (Nat → Int32)) => x.1 = pf_qd mb1 (fun j z => eq2 (j * 12 + ms1 + z)) da i ∧ x.2.1 = pf_qt mb1 th i ∧ x.2.2 = pf_qc mb1 (fun j z => eq2 (j * 12 + ms1 + z)) da ck i) (fun i (x : (Nat → Nat) × (Nat → Nat) × (Nat → Int32)) => [(0, .ref (a 0)), (2, .int (nI i))]) (fun i (x : (Nat → Nat) × (Nat → Nat) × (Nat → Int32)) => WX a cI cZ pf_P pf_E x.1 x.2.1 x.2.2 rc re rt ms1 mb1 ur1 eq2) 0 ms1 (by omega) (da, th, ck) ⟨rfl, rfl, rfl⟩ (lv_sub hl [1, 0] rfl) hP hS (fun i x H locs ls hgeJ hhiJ hIJ hl hP hS ihJ => ?_) (fun x H locs ls hIJ hl hP hS => ?_)
    · skip
      obtain ⟨f2, t2, u2⟩ := x
      have hIJ : f2 = pf_qd mb1 (fun j z => eq2 (j * 12 + ms1 + z)) da i ∧ t2 = pf_qt mb1 th i ∧ u2 = pf_qc mb1 (fun j z => eq2 (j * 12 + ms1 + z)) da ck i := hIJ
      have hl : lv_has ls 3 [(0, .ref (a 0)), (2, .int (nI i))] := hl
      have hP : va_P D clA (WX a cI cZ pf_P pf_E f2 t2 u2 rc re rt ms1 mb1 ur1 eq2) H := hP
      obtain ⟨hJ1, hJ2, hJ3⟩ := hIJ
      refine lv_iload_n hx hb dX0_repair_47 rfl (lv_at hl 1 rfl) ?_
      refine lv_aload_n hx hb dX0_repair_48 rfl (lv_at hl 0 rfl) ?_
      refine x_get hx hb hts hown hK hP rfl 8 (by decide) q41 rfl rfl dX0_repair_49 ?_
      refine na_icmp_ge (tgt := 66) hx hb dX0_repair_52 (by decide) (by omega) (by omega) (fun hc9 => absurd hc9 (by omega)) (fun hc => ?_)
      refine lv_aload_n hx hb dX0_repair_55 rfl (lv_at hl 0 rfl) ?_
      refine lv_iload_n hx hb dX0_repair_56 rfl (lv_at hl 1 rfl) ?_
      refine pa_callV (ci := 0) (n := 1) ⟨hx, hb, hml, hown, hts⟩ (m_putBack l hN hms hmb1 (by omega)) hK hP hS (fun _ h => h) rfl rfl (lw_V q154 q156 qs14 q18 q157) rfl rfl (by decide +kernel) ⟨by decide, by decide⟩ rfl hl.1 rfl (Nat.le_of_ble_eq_true rfl) dX0_repair_57 ⟨Nat.le_refl _, Nat.le_refl _⟩ (fun H locs hP hS _ => ?_)
      refine na_iinc (lv' := [(2, .int (nI (i + 1))), (0, .ref (a 0))]) hx hb dX0_repair_60 hl (k := 1) rfl (by decide) rfl (fun ls hl => ?_)
      refine lv_goto (tgt := 47) hx hb dX0_repair_63 (by decide) ?_
      exact ihJ (pf_pb f2 (mb1 i) (fun z => eq2 (i * 12 + ms1 + z)) 8, pa_u t2 (mb1 i) 1, upd u2 (mb1 i) (pf_sum (pf_pb f2 (mb1 i) (fun z => eq2 (i * 12 + ms1 + z)) 8) (mb1 i) 8)) _ _ _ ⟨by rw [hJ1]; rfl, by rw [hJ2]; rfl, by rw [hJ1, hJ3]; rfl⟩ (lv_sub hl [1, 0] rfl) hP hS
    · skip
      obtain ⟨f2, t2, u2⟩ := x
      have hIJ : f2 = pf_qd mb1 (fun j z => eq2 (j * 12 + ms1 + z)) da ms1 ∧ t2 = pf_qt mb1 th ms1 ∧ u2 = pf_qc mb1 (fun j z => eq2 (j * 12 + ms1 + z)) da ck ms1 := hIJ
      have hl : lv_has ls 3 [(0, .ref (a 0)), (2, .int (nI ms1))] := hl
      have hP : va_P D clA (WX a cI cZ pf_P pf_E f2 t2 u2 rc re rt ms1 mb1 ur1 eq2) H := hP
      refine lv_iload_n hx hb dX0_repair_47 rfl (lv_at hl 1 rfl) ?_
      refine lv_aload_n hx hb dX0_repair_48 rfl (lv_at hl 0 rfl) ?_
      refine x_get hx hb hts hown hK hP rfl 8 (by decide) q41 rfl rfl dX0_repair_49 ?_
      refine na_icmp_ge (tgt := 66) hx hb dX0_repair_52 (by decide) (by omega) (by omega) (fun hc => ?_) (fun hc9 => absurd hc9 (by omega))
      have hP : va_P D clA (WX a cI cZ pf_P pf_E (pf_qd mb1 (fun j z => eq2 (j * 12 + ms1 + z)) da ms1) (pf_qt mb1 th ms1) (pf_qc mb1 (fun j z => eq2 (j * 12 + ms1 + z)) da ck ms1) rc re rt ms1 mb1 ur1 eq2) _ := (by rw [hIJ.1, hIJ.2.1, hIJ.2.2] at hP; exact hP)
      have hda2 : ∀ j, (pf_qd mb1 (fun j z => eq2 (j * 12 + ms1 + z)) da ms1) j < 256 := pf_qd_lt hda (fun _ _ => heq2 _) ms1
      refine lv_iconst (v := nI 0) hx hb dX0_repair_66 (by decide) ?_
      refine lv_istore_n (lv' := [(2, .int (nI 0)), (0, .ref (a 0))]) hx hb dX0_repair_67 rfl hl (by decide) rfl (fun ls hl => ?_)
      refine pa_lpm (nL := 3) (fun i (x : (Nat → Nat) × (Nat → Nat)) => x.1 = pf_pr (pf_qd mb1 (fun j z => eq2 (j * 12 + ms1 + z)) da ms1) re i ∧ x.2 = pf_pt rt i) (fun i (x : (Nat → Nat) × (Nat → Nat)) => [(0, .ref (a 0)), (2, .int (nI i))]) (fun i (x : (Nat → Nat) × (Nat → Nat)) => WX a cI cZ pf_P pf_E (pf_qd mb1 (fun j z => eq2 (j * 12 + ms1 + z)) da ms1) (pf_qt mb1 th ms1) (pf_qc mb1 (fun j z => eq2 (j * 12 + ms1 + z)) da ck ms1) rc x.1 x.2 ms1 mb1 ur1 eq2) 0 rc (by omega) (re, rt) ⟨rfl, rfl⟩ (lv_sub hl [1, 0] rfl) hP hS (fun i x H locs ls hgeL hhiL hIL hl hP hS ihL => ?_) (fun x H locs ls hIL hl hP hS => ?_)
      · skip
        obtain ⟨f3, t3⟩ := x
        have hIL : f3 = pf_pr (pf_qd mb1 (fun j z => eq2 (j * 12 + ms1 + z)) da ms1) re i ∧ t3 = pf_pt rt i := hIL
        have hl : lv_has ls 3 [(0, .ref (a 0)), (2, .int (nI i))] := hl
        have hP : va_P D clA (WX a cI cZ pf_P pf_E (pf_qd mb1 (fun j z => eq2 (j * 12 + ms1 + z)) da ms1) (pf_qt mb1 th ms1) (pf_qc mb1 (fun j z => eq2 (j * 12 + ms1 + z)) da ck ms1) rc f3 t3 ms1 mb1 ur1 eq2) H := hP
        refine lv_iload_n hx hb dX0_repair_68 rfl (lv_at hl 1 rfl) ?_
        refine lv_aload_n hx hb dX0_repair_69 rfl (lv_at hl 0 rfl) ?_
        refine x_get hx hb hts hown hK hP rfl 5 (by decide) q38 rfl rfl dX0_repair_70 ?_
        refine na_icmp_ge (tgt := 87) hx hb dX0_repair_73 (by decide) (by omega) (by omega) (fun hc9 => absurd hc9 (by omega)) (fun hc => ?_)
        refine lv_aload_n hx hb dX0_repair_76 rfl (lv_at hl 0 rfl) ?_
        refine lv_iload_n hx hb dX0_repair_77 rfl (lv_at hl 1 rfl) ?_
        refine pa_callV (ci := 0) (n := 1) ⟨hx, hb, hml, hown, hts⟩ (m_makeRecovery l hN hda2 (by omega)) hK hP hS (fun _ h => h) rfl rfl (lw_V q106 q108 qs6 q18 q109) rfl rfl (by decide +kernel) ⟨by decide, by decide⟩ rfl hl.1 rfl (Nat.le_of_ble_eq_true rfl) dX0_repair_78 ⟨Nat.le_refl _, Nat.le_refl _⟩ (fun H locs hP hS _ => ?_)
        refine na_iinc (lv' := [(2, .int (nI (i + 1))), (0, .ref (a 0))]) hx hb dX0_repair_81 hl (k := 1) rfl (by decide) rfl (fun ls hl => ?_)
        refine lv_goto (tgt := 68) hx hb dX0_repair_84 (by decide) ?_
        exact ihL (pf_mk (pf_qd mb1 (fun j z => eq2 (j * 12 + ms1 + z)) da ms1) f3 i 8, pa_u t3 i 1) _ _ _ ⟨by rw [hIL.1]; rfl, by rw [hIL.2]; rfl⟩ (lv_sub hl [1, 0] rfl) hP hS
      · skip
        obtain ⟨f3, t3⟩ := x
        have hIL : f3 = pf_pr (pf_qd mb1 (fun j z => eq2 (j * 12 + ms1 + z)) da ms1) re rc ∧ t3 = pf_pt rt rc := hIL
        have hl : lv_has ls 3 [(0, .ref (a 0)), (2, .int (nI rc))] := hl
        have hP : va_P D clA (WX a cI cZ pf_P pf_E (pf_qd mb1 (fun j z => eq2 (j * 12 + ms1 + z)) da ms1) (pf_qt mb1 th ms1) (pf_qc mb1 (fun j z => eq2 (j * 12 + ms1 + z)) da ck ms1) rc f3 t3 ms1 mb1 ur1 eq2) H := hP
        refine lv_iload_n hx hb dX0_repair_68 rfl (lv_at hl 1 rfl) ?_
        refine lv_aload_n hx hb dX0_repair_69 rfl (lv_at hl 0 rfl) ?_
        refine x_get hx hb hts hown hK hP rfl 5 (by decide) q38 rfl rfl dX0_repair_70 ?_
        refine na_icmp_ge (tgt := 87) hx hb dX0_repair_73 (by decide) (by omega) (by omega) (fun hc => ?_) (fun hc9 => absurd hc9 (by omega))
        refine lv_aload_n hx hb dX0_repair_87 rfl (lv_at hl 0 rfl) ?_
        refine x_get hx hb hts hown hK hP rfl 8 (by decide) q41 rfl rfl dX0_repair_88 ?_
        exact pa_iretM hx hb hr hlk rfl (by rw [hIL.1, hIL.2] at hP; exact hP) hS dX0_repair_91
end
section
set_option maxRecDepth 100000
set_option maxHeartbeats 4000000 in
theorem r_refusal_1 (l : Launch) {D : va_G} {a : Nat → Nat} {cI cZ : ClassId} {rl st : Nat → Nat} {rc : Nat} {lo : Nat → Nat}  {bk pl vl : Int32} (h : bk < 0 ∨ nI 6 ≤ bk) : Met l yX1_refusal (ws_ yX1_refusal cX1_refusal 4 (some .int)) (pa_rm 0 0) (PcX D clA [(cI, .int), (cZ, .boolean)] [.ref (a 0), .int bk, .int pl, .int vl] (WM a cI cZ rl st rc lo)) (QcRead (-1)) 0 0 (fun _ => False) := by
  refine pa_enter (by decide) (Nat.le_of_ble_eq_true rfl) (fun p e s m below meth c ls hx hb hr hlk hml hown hin hts hP hK hl => ?_)
  have hown : s.vm.findClass RX1 = some m.cls := hown
  have hl : lv_has ls 4 [(0, .ref (a 0)), (1, .int bk), (2, .int pl), (3, .int vl)] := hl
  rcases h with h | h
  · skip
    refine lv_iload_n hx hb dX1_refusal_0 rfl (lv_at hl 1 rfl) ?_
    refine lv_if_lt (tgt := 9) hx hb dX1_refusal_1 (by decide) (fun hc => ?_) (fun hc9 => absurd hc9 (fun q => q h))
    refine lv_iconst (v := (-1)) hx hb dX1_refusal_9 (by decide) ?_
    exact pa_iretR hx hb hr hlk rfl dX1_refusal_10
  · skip
    refine lv_iload_n hx hb dX1_refusal_0 rfl (lv_at hl 1 rfl) ?_
    refine lv_if_lt (tgt := 9) hx hb dX1_refusal_1 (by decide) (fun hc9 => absurd hc9 (fun q => absurd (Int32.lt_of_le_of_lt h q) (by decide))) (fun hc => ?_)
    refine lv_iload_n hx hb dX1_refusal_4 rfl (lv_at hl 1 rfl) ?_
    refine lv_iconst (v := nI 5) hx hb dX1_refusal_5 (by decide) ?_
    refine lv_icmp_le (tgt := 11) hx hb dX1_refusal_6 (by decide) (fun hc9 => absurd hc9 (fun q => absurd (Int32.le_trans h q) (by decide))) (fun hc => ?_)
    refine lv_iconst (v := (-1)) hx hb dX1_refusal_9 (by decide) ?_
    exact pa_iretR hx hb hr hlk rfl dX1_refusal_10
set_option maxHeartbeats 4000000 in
theorem r_refusal_2 (l : Launch) {D : va_G} {a : Nat → Nat} {cI cZ : ClassId} {rl st : Nat → Nat} {rc : Nat} {lo : Nat → Nat} {b : Nat} {pl vl : Int32} (hb1 : b < 6) (h : pl < 0 ∨ nI 8 ≤ pl) : Met l yX1_refusal (ws_ yX1_refusal cX1_refusal 4 (some .int)) (pa_rm 0 0) (PcX D clA [(cI, .int), (cZ, .boolean)] [.ref (a 0), .int (nI b), .int pl, .int vl] (WM a cI cZ rl st rc lo)) (QcRead (-2)) 0 0 (fun _ => False) := by
  refine pa_enter (by decide) (Nat.le_of_ble_eq_true rfl) (fun p e s m below meth c ls hx hb hr hlk hml hown hin hts hP hK hl => ?_)
  have hown : s.vm.findClass RX1 = some m.cls := hown
  have hl : lv_has ls 4 [(0, .ref (a 0)), (1, .int (nI b)), (2, .int pl), (3, .int vl)] := hl
  rcases h with h | h
  · skip
    refine lv_iload_n hx hb dX1_refusal_0 rfl (lv_at hl 1 rfl) ?_
    refine na_if_lt (tgt := 9) hx hb dX1_refusal_1 (by decide) (by omega) ?_
    refine lv_iload_n hx hb dX1_refusal_4 rfl (lv_at hl 1 rfl) ?_
    refine lv_iconst (v := nI 5) hx hb dX1_refusal_5 (by decide) ?_
    refine na_icmp_le (tgt := 11) hx hb dX1_refusal_6 (by decide) (by omega) (by omega) (fun hc => ?_) (fun hc9 => absurd hc9 (by omega))
    refine lv_iload_n hx hb dX1_refusal_11 rfl (lv_at hl 2 rfl) ?_
    refine lv_if_lt (tgt := 21) hx hb dX1_refusal_12 (by decide) (fun hc => ?_) (fun hc9 => absurd hc9 (fun q => q h))
    refine lv_bipush (v := (-2)) hx hb dX1_refusal_21 (by decide) ?_
    exact pa_iretR hx hb hr hlk rfl dX1_refusal_23
  · skip
    refine lv_iload_n hx hb dX1_refusal_0 rfl (lv_at hl 1 rfl) ?_
    refine na_if_lt (tgt := 9) hx hb dX1_refusal_1 (by decide) (by omega) ?_
    refine lv_iload_n hx hb dX1_refusal_4 rfl (lv_at hl 1 rfl) ?_
    refine lv_iconst (v := nI 5) hx hb dX1_refusal_5 (by decide) ?_
    refine na_icmp_le (tgt := 11) hx hb dX1_refusal_6 (by decide) (by omega) (by omega) (fun hc => ?_) (fun hc9 => absurd hc9 (by omega))
    refine lv_iload_n hx hb dX1_refusal_11 rfl (lv_at hl 2 rfl) ?_
    refine lv_if_lt (tgt := 21) hx hb dX1_refusal_12 (by decide) (fun hc9 => absurd hc9 (fun q => absurd (Int32.lt_of_le_of_lt h q) (by decide))) (fun hc => ?_)
    refine lv_iload_n hx hb dX1_refusal_15 rfl (lv_at hl 2 rfl) ?_
    refine lv_bipush (v := nI 7) hx hb dX1_refusal_16 (by decide) ?_
    refine lv_icmp_le (tgt := 24) hx hb dX1_refusal_18 (by decide) (fun hc9 => absurd hc9 (fun q => absurd (Int32.le_trans h q) (by decide))) (fun hc => ?_)
    refine lv_bipush (v := (-2)) hx hb dX1_refusal_21 (by decide) ?_
    exact pa_iretR hx hb hr hlk rfl dX1_refusal_23
set_option maxHeartbeats 4000000 in
theorem r_refusal_3 (l : Launch) {D : va_G} {a : Nat → Nat} {cI cZ : ClassId} {rl st : Nat → Nat} {rc : Nat} {lo : Nat → Nat} {b i : Nat} {vl : Int32} (hb1 : b < 6) (hi1 : i < 8) (h : vl < 0 ∨ nI 256 ≤ vl) : Met l yX1_refusal (ws_ yX1_refusal cX1_refusal 4 (some .int)) (pa_rm 0 0) (PcX D clA [(cI, .int), (cZ, .boolean)] [.ref (a 0), .int (nI b), .int (nI i), .int vl] (WM a cI cZ rl st rc lo)) (QcRead (-3)) 0 0 (fun _ => False) := by
  refine pa_enter (by decide) (Nat.le_of_ble_eq_true rfl) (fun p e s m below meth c ls hx hb hr hlk hml hown hin hts hP hK hl => ?_)
  have hown : s.vm.findClass RX1 = some m.cls := hown
  have hl : lv_has ls 4 [(0, .ref (a 0)), (1, .int (nI b)), (2, .int (nI i)), (3, .int vl)] := hl
  rcases h with h | h
  · skip
    refine lv_iload_n hx hb dX1_refusal_0 rfl (lv_at hl 1 rfl) ?_
    refine na_if_lt (tgt := 9) hx hb dX1_refusal_1 (by decide) (by omega) ?_
    refine lv_iload_n hx hb dX1_refusal_4 rfl (lv_at hl 1 rfl) ?_
    refine lv_iconst (v := nI 5) hx hb dX1_refusal_5 (by decide) ?_
    refine na_icmp_le (tgt := 11) hx hb dX1_refusal_6 (by decide) (by omega) (by omega) (fun hc => ?_) (fun hc9 => absurd hc9 (by omega))
    refine lv_iload_n hx hb dX1_refusal_11 rfl (lv_at hl 2 rfl) ?_
    refine na_if_lt (tgt := 21) hx hb dX1_refusal_12 (by decide) (by omega) ?_
    refine lv_iload_n hx hb dX1_refusal_15 rfl (lv_at hl 2 rfl) ?_
    refine lv_bipush (v := nI 7) hx hb dX1_refusal_16 (by decide) ?_
    refine na_icmp_le (tgt := 24) hx hb dX1_refusal_18 (by decide) (by omega) (by omega) (fun hc => ?_) (fun hc9 => absurd hc9 (by omega))
    refine lv_iload_n hx hb dX1_refusal_24 rfl (lv_at hl 3 rfl) ?_
    refine lv_if_lt (tgt := 35) hx hb dX1_refusal_25 (by decide) (fun hc => ?_) (fun hc9 => absurd hc9 (fun q => q h))
    refine lv_bipush (v := (-3)) hx hb dX1_refusal_35 (by decide) ?_
    exact pa_iretR hx hb hr hlk rfl dX1_refusal_37
  · skip
    refine lv_iload_n hx hb dX1_refusal_0 rfl (lv_at hl 1 rfl) ?_
    refine na_if_lt (tgt := 9) hx hb dX1_refusal_1 (by decide) (by omega) ?_
    refine lv_iload_n hx hb dX1_refusal_4 rfl (lv_at hl 1 rfl) ?_
    refine lv_iconst (v := nI 5) hx hb dX1_refusal_5 (by decide) ?_
    refine na_icmp_le (tgt := 11) hx hb dX1_refusal_6 (by decide) (by omega) (by omega) (fun hc => ?_) (fun hc9 => absurd hc9 (by omega))
    refine lv_iload_n hx hb dX1_refusal_11 rfl (lv_at hl 2 rfl) ?_
    refine na_if_lt (tgt := 21) hx hb dX1_refusal_12 (by decide) (by omega) ?_
    refine lv_iload_n hx hb dX1_refusal_15 rfl (lv_at hl 2 rfl) ?_
    refine lv_bipush (v := nI 7) hx hb dX1_refusal_16 (by decide) ?_
    refine na_icmp_le (tgt := 24) hx hb dX1_refusal_18 (by decide) (by omega) (by omega) (fun hc => ?_) (fun hc9 => absurd hc9 (by omega))
    refine lv_iload_n hx hb dX1_refusal_24 rfl (lv_at hl 3 rfl) ?_
    refine lv_if_lt (tgt := 35) hx hb dX1_refusal_25 (by decide) (fun hc9 => absurd hc9 (fun q => absurd (Int32.lt_of_le_of_lt h q) (by decide))) (fun hc => ?_)
    refine lv_iload_n hx hb dX1_refusal_28 rfl (lv_at hl 3 rfl) ?_
    refine lv_sipush (v := nI 255) hx hb dX1_refusal_29 (by decide) ?_
    refine lv_icmp_le (tgt := 38) hx hb dX1_refusal_32 (by decide) (fun hc9 => absurd hc9 (fun q => absurd (Int32.le_trans h q) (by decide))) (fun hc => ?_)
    refine lv_bipush (v := (-3)) hx hb dX1_refusal_35 (by decide) ?_
    exact pa_iretR hx hb hr hlk rfl dX1_refusal_37
set_option maxHeartbeats 4000000 in
theorem r_refusal_4 (l : Launch) {D : va_G} {a : Nat → Nat} {cI cZ : ClassId} {rl st : Nat → Nat} {rc : Nat} {lo : Nat → Nat} {b i v : Nat}  (hst : ∀ j, st j < 3) (hb1 : b < 6) (hi1 : i < 8) (hv1 : v < 256) (h : st b ≠ 0) : Met l yX1_refusal (ws_ yX1_refusal cX1_refusal 4 (some .int)) (pa_rm 0 0) (PcX D clA [(cI, .int), (cZ, .boolean)] [.ref (a 0), .int (nI b), .int (nI i), .int (nI v)] (WM a cI cZ rl st rc lo)) (QcRead (-4)) 0 0 (fun _ => False) := by
  refine pa_enter (by decide) (Nat.le_of_ble_eq_true rfl) (fun p e s m below meth c ls hx hb hr hlk hml hown hin hts hP hK hl => ?_)
  have hown : s.vm.findClass RX1 = some m.cls := hown
  have hl : lv_has ls 4 [(0, .ref (a 0)), (1, .int (nI b)), (2, .int (nI i)), (3, .int (nI v))] := hl
  have hs := hst b
  refine lv_iload_n hx hb dX1_refusal_0 rfl (lv_at hl 1 rfl) ?_
  refine na_if_lt (tgt := 9) hx hb dX1_refusal_1 (by decide) (by omega) ?_
  refine lv_iload_n hx hb dX1_refusal_4 rfl (lv_at hl 1 rfl) ?_
  refine lv_iconst (v := nI 5) hx hb dX1_refusal_5 (by decide) ?_
  refine na_icmp_le (tgt := 11) hx hb dX1_refusal_6 (by decide) (by omega) (by omega) (fun hc => ?_) (fun hc9 => absurd hc9 (by omega))
  refine lv_iload_n hx hb dX1_refusal_11 rfl (lv_at hl 2 rfl) ?_
  refine na_if_lt (tgt := 21) hx hb dX1_refusal_12 (by decide) (by omega) ?_
  refine lv_iload_n hx hb dX1_refusal_15 rfl (lv_at hl 2 rfl) ?_
  refine lv_bipush (v := nI 7) hx hb dX1_refusal_16 (by decide) ?_
  refine na_icmp_le (tgt := 24) hx hb dX1_refusal_18 (by decide) (by omega) (by omega) (fun hc => ?_) (fun hc9 => absurd hc9 (by omega))
  refine lv_iload_n hx hb dX1_refusal_24 rfl (lv_at hl 3 rfl) ?_
  refine na_if_lt (tgt := 35) hx hb dX1_refusal_25 (by decide) (by omega) ?_
  refine lv_iload_n hx hb dX1_refusal_28 rfl (lv_at hl 3 rfl) ?_
  refine lv_sipush (v := nI 255) hx hb dX1_refusal_29 (by decide) ?_
  refine na_icmp_le (tgt := 38) hx hb dX1_refusal_32 (by decide) (by omega) (by omega) (fun hc => ?_) (fun hc9 => absurd hc9 (by omega))
  refine lv_aload_n hx hb dX1_refusal_38 rfl (lv_at hl 0 rfl) ?_
  refine m_get hx hb hts hown hK hP rfl 1 (by decide) q185 rfl rfl dX1_refusal_39 ?_
  refine lv_iload_n hx hb dX1_refusal_42 rfl (lv_at hl 1 rfl) ?_
  refine ra_ld hx hb hK hP 2 0 rfl rfl (by omega) (by decide) dX1_refusal_43 ?_
  refine na_if_ne (tgt := 51) hx hb dX1_refusal_44 (by decide) (by omega) (fun hc => ?_) (fun hc9 => absurd hc9 (by omega))
  refine lv_bipush (v := (-4)) hx hb dX1_refusal_51 (by decide) ?_
  exact pa_iretR hx hb hr hlk rfl dX1_refusal_53
set_option maxHeartbeats 4000000 in
theorem r_refusal_5 (l : Launch) {D : va_G} {a : Nat → Nat} {cI cZ : ClassId} {rl st : Nat → Nat} {rc : Nat} {lo : Nat → Nat} {b i v : Nat}  (hst : ∀ j, st j < 3) (hb1 : b < 6) (hi1 : i < 8) (hv1 : v < 256) (h : st b = 0) : Met l yX1_refusal (ws_ yX1_refusal cX1_refusal 4 (some .int)) (pa_rm 0 0) (PcX D clA [(cI, .int), (cZ, .boolean)] [.ref (a 0), .int (nI b), .int (nI i), .int (nI v)] (WM a cI cZ rl st rc lo)) (QcRead (nI 0)) 0 0 (fun _ => False) := by
  refine pa_enter (by decide) (Nat.le_of_ble_eq_true rfl) (fun p e s m below meth c ls hx hb hr hlk hml hown hin hts hP hK hl => ?_)
  have hown : s.vm.findClass RX1 = some m.cls := hown
  have hl : lv_has ls 4 [(0, .ref (a 0)), (1, .int (nI b)), (2, .int (nI i)), (3, .int (nI v))] := hl
  have hs := hst b
  refine lv_iload_n hx hb dX1_refusal_0 rfl (lv_at hl 1 rfl) ?_
  refine na_if_lt (tgt := 9) hx hb dX1_refusal_1 (by decide) (by omega) ?_
  refine lv_iload_n hx hb dX1_refusal_4 rfl (lv_at hl 1 rfl) ?_
  refine lv_iconst (v := nI 5) hx hb dX1_refusal_5 (by decide) ?_
  refine na_icmp_le (tgt := 11) hx hb dX1_refusal_6 (by decide) (by omega) (by omega) (fun hc => ?_) (fun hc9 => absurd hc9 (by omega))
  refine lv_iload_n hx hb dX1_refusal_11 rfl (lv_at hl 2 rfl) ?_
  refine na_if_lt (tgt := 21) hx hb dX1_refusal_12 (by decide) (by omega) ?_
  refine lv_iload_n hx hb dX1_refusal_15 rfl (lv_at hl 2 rfl) ?_
  refine lv_bipush (v := nI 7) hx hb dX1_refusal_16 (by decide) ?_
  refine na_icmp_le (tgt := 24) hx hb dX1_refusal_18 (by decide) (by omega) (by omega) (fun hc => ?_) (fun hc9 => absurd hc9 (by omega))
  refine lv_iload_n hx hb dX1_refusal_24 rfl (lv_at hl 3 rfl) ?_
  refine na_if_lt (tgt := 35) hx hb dX1_refusal_25 (by decide) (by omega) ?_
  refine lv_iload_n hx hb dX1_refusal_28 rfl (lv_at hl 3 rfl) ?_
  refine lv_sipush (v := nI 255) hx hb dX1_refusal_29 (by decide) ?_
  refine na_icmp_le (tgt := 38) hx hb dX1_refusal_32 (by decide) (by omega) (by omega) (fun hc => ?_) (fun hc9 => absurd hc9 (by omega))
  refine lv_aload_n hx hb dX1_refusal_38 rfl (lv_at hl 0 rfl) ?_
  refine m_get hx hb hts hown hK hP rfl 1 (by decide) q185 rfl rfl dX1_refusal_39 ?_
  refine lv_iload_n hx hb dX1_refusal_42 rfl (lv_at hl 1 rfl) ?_
  refine ra_ld hx hb hK hP 2 0 rfl rfl (by omega) (by decide) dX1_refusal_43 ?_
  refine na_if_ne (tgt := 51) hx hb dX1_refusal_44 (by decide) (by omega) (fun hc9 => absurd hc9 (by omega)) (fun hc => ?_)
  refine lv_iconst (v := nI 0) hx hb dX1_refusal_47 (by decide) ?_
  refine lv_goto (tgt := 53) hx hb dX1_refusal_48 (by decide) ?_
  exact pa_iretR hx hb hr hlk rfl dX1_refusal_53
set_option maxHeartbeats 4000000 in
theorem r_notGood (l : Launch) {D : va_G} {a : Nat → Nat} {cI cZ : ClassId} {rl st : Nat → Nat} {rc : Nat} {lo : Nat → Nat} (hst : ∀ j, st j < 3) : Met l yX1_notGood (ws_ yX1_notGood cX1_notGood 3 (some .int)) (pa_rm 0 0) (PcX D clA [(cI, .int), (cZ, .boolean)] [.ref (a 0)] (WM a cI cZ rl st rc lo)) (QcRead (nI (pf_ng st 6))) 0 0 (fun _ => False) := by
  refine pa_enter (by decide) (Nat.le_of_ble_eq_true rfl) (fun p e s m below meth c ls hx hb hr hlk hml hown hin hts hP hK hl => ?_)
  have hown : s.vm.findClass RX1 = some m.cls := hown
  have hl : lv_has ls 3 [(0, .ref (a 0))] := hl
  refine lv_iconst (v := nI 0) hx hb dX1_notGood_0 (by decide) ?_
  refine lv_istore_n (lv' := [(1, .int (nI 0)), (0, .ref (a 0))]) hx hb dX1_notGood_1 rfl hl (by decide) rfl (fun ls hl => ?_)
  refine lv_iconst (v := nI 0) hx hb dX1_notGood_2 (by decide) ?_
  refine lv_istore_n (lv' := [(2, .int (nI 0)), (1, .int (nI 0)), (0, .ref (a 0))]) hx hb dX1_notGood_3 rfl hl (by decide) rfl (fun ls hl => ?_)
  refine pa_lpr (nL := 3) (fun i (x : Nat) => x = pf_ng st i) (fun i (x : Nat) => [(0, .ref (a 0)), (1, .int (nI x)), (2, .int (nI i))]) 0 6 (by omega) (0) rfl (lv_sub hl [2, 1, 0] rfl) (fun i t ls hge hhi hI hl ih => ?_) (fun t ls hI hl => ?_)
  · skip
    have hI : t = pf_ng st i := hI
    have hl : lv_has ls 3 [(0, .ref (a 0)), (1, .int (nI t)), (2, .int (nI i))] := hl
    have hs := hst i
    refine lv_iload_n hx hb dX1_notGood_4 rfl (lv_at hl 2 rfl) ?_
    refine lv_bipush (v := nI 6) hx hb dX1_notGood_5 (by decide) ?_
    refine na_icmp_ge (tgt := 28) hx hb dX1_notGood_7 (by decide) (by omega) (by omega) (fun hc9 => absurd hc9 (by omega)) (fun hc => ?_)
    refine lv_aload_n hx hb dX1_notGood_10 rfl (lv_at hl 0 rfl) ?_
    refine m_get hx hb hts hown hK hP rfl 1 (by decide) q185 rfl rfl dX1_notGood_11 ?_
    refine lv_iload_n hx hb dX1_notGood_14 rfl (lv_at hl 2 rfl) ?_
    refine ra_ld hx hb hK hP 2 0 rfl rfl (by omega) (by decide) dX1_notGood_15 ?_
    refine na_if_eq (tgt := 22) hx hb dX1_notGood_16 (by decide) (by omega) (fun hc => ?_) (fun hc => ?_)
    · skip
      refine na_iinc (lv' := [(2, .int (nI (i + 1))), (0, .ref (a 0)), (1, .int (nI t))]) hx hb dX1_notGood_22 hl (k := 2) rfl (by decide) rfl (fun ls hl => ?_)
      refine lv_goto (tgt := 4) hx hb dX1_notGood_25 (by decide) ?_
      exact ih (t) _ (by rw [hI]; exact (if_pos hc).symm) (lv_sub hl [1, 2, 0] rfl)
    · skip
      refine na_iinc (lv' := [(1, .int (nI (t + 1))), (0, .ref (a 0)), (2, .int (nI i))]) hx hb dX1_notGood_19 hl (k := 1) rfl (by decide) rfl (fun ls hl => ?_)
      refine na_iinc (lv' := [(2, .int (nI (i + 1))), (1, .int (nI (t + 1))), (0, .ref (a 0))]) hx hb dX1_notGood_22 hl (k := 2) rfl (by decide) rfl (fun ls hl => ?_)
      refine lv_goto (tgt := 4) hx hb dX1_notGood_25 (by decide) ?_
      exact ih (t + 1) _ (by rw [hI]; exact (if_neg hc).symm) (lv_sub hl [2, 1, 0] rfl)
  · skip
    have hI : t = pf_ng st 6 := hI
    have hl : lv_has ls 3 [(0, .ref (a 0)), (1, .int (nI t)), (2, .int (nI 6))] := hl
    refine lv_iload_n hx hb dX1_notGood_4 rfl (lv_at hl 2 rfl) ?_
    refine lv_bipush (v := nI 6) hx hb dX1_notGood_5 (by decide) ?_
    refine na_icmp_ge (tgt := 28) hx hb dX1_notGood_7 (by decide) (by omega) (by omega) (fun hc => ?_) (fun hc9 => absurd hc9 (by omega))
    refine lv_iload_n hx hb dX1_notGood_28 rfl (lv_at hl 1 rfl) ?_
    exact pa_iretR hx hb hr hlk (by rw [hI]) dX1_notGood_29
set_option maxHeartbeats 4000000 in
theorem r_spare (l : Launch) {D : va_G} {a : Nat → Nat} {cI cZ : ClassId} {rl st : Nat → Nat} {rc : Nat} {lo : Nat → Nat} (hlo : ∀ j, lo j < 2) (hrc : rc ≤ 4) : Met l yX1_spare (ws_ yX1_spare cX1_spare 3 (some .int)) (pa_rm 0 0) (PcX D clA [(cI, .int), (cZ, .boolean)] [.ref (a 0)] (WM a cI cZ rl st rc lo)) (QcRead (nI (pf_sp lo rc))) 0 0 (fun _ => False) := by
  refine pa_enter (by decide) (Nat.le_of_ble_eq_true rfl) (fun p e s m below meth c ls hx hb hr hlk hml hown hin hts hP hK hl => ?_)
  have hown : s.vm.findClass RX1 = some m.cls := hown
  have hl : lv_has ls 3 [(0, .ref (a 0))] := hl
  refine lv_iconst (v := nI 0) hx hb dX1_spare_0 (by decide) ?_
  refine lv_istore_n (lv' := [(1, .int (nI 0)), (0, .ref (a 0))]) hx hb dX1_spare_1 rfl hl (by decide) rfl (fun ls hl => ?_)
  refine lv_iconst (v := nI 0) hx hb dX1_spare_2 (by decide) ?_
  refine lv_istore_n (lv' := [(2, .int (nI 0)), (1, .int (nI 0)), (0, .ref (a 0))]) hx hb dX1_spare_3 rfl hl (by decide) rfl (fun ls hl => ?_)
  refine pa_lpr (nL := 3) (fun i (x : Nat) => x = pf_sp lo i) (fun i (x : Nat) => [(0, .ref (a 0)), (1, .int (nI x)), (2, .int (nI i))]) 0 rc (by omega) (0) rfl (lv_sub hl [2, 1, 0] rfl) (fun i t ls hge hhi hI hl ih => ?_) (fun t ls hI hl => ?_)
  · skip
    have hI : t = pf_sp lo i := hI
    have hl : lv_has ls 3 [(0, .ref (a 0)), (1, .int (nI t)), (2, .int (nI i))] := hl
    have hs := hlo i
    refine lv_iload_n hx hb dX1_spare_4 rfl (lv_at hl 2 rfl) ?_
    refine lv_aload_n hx hb dX1_spare_5 rfl (lv_at hl 0 rfl) ?_
    refine m_get hx hb hts hown hK hP rfl 2 (by decide) q186 rfl rfl dX1_spare_6 ?_
    refine na_icmp_ge (tgt := 30) hx hb dX1_spare_9 (by decide) (by omega) (by omega) (fun hc9 => absurd hc9 (by omega)) (fun hc => ?_)
    refine lv_aload_n hx hb dX1_spare_12 rfl (lv_at hl 0 rfl) ?_
    refine m_get hx hb hts hown hK hP rfl 3 (by decide) q187 rfl rfl dX1_spare_13 ?_
    refine lv_iload_n hx hb dX1_spare_16 rfl (lv_at hl 2 rfl) ?_
    refine rz_ld hx hb hK hP 3 1 rfl rfl (by omega) (by decide) dX1_spare_17 ?_
    refine na_if_ne (tgt := 24) hx hb dX1_spare_18 (by decide) (by omega) (fun hc => ?_) (fun hc => ?_)
    · skip
      refine na_iinc (lv' := [(2, .int (nI (i + 1))), (0, .ref (a 0)), (1, .int (nI t))]) hx hb dX1_spare_24 hl (k := 2) rfl (by decide) rfl (fun ls hl => ?_)
      refine lv_goto (tgt := 4) hx hb dX1_spare_27 (by decide) ?_
      exact ih (t) _ (by rw [hI]; exact (if_neg hc).symm) (lv_sub hl [1, 2, 0] rfl)
    · skip
      refine na_iinc (lv' := [(1, .int (nI (t + 1))), (0, .ref (a 0)), (2, .int (nI i))]) hx hb dX1_spare_21 hl (k := 1) rfl (by decide) rfl (fun ls hl => ?_)
      refine na_iinc (lv' := [(2, .int (nI (i + 1))), (1, .int (nI (t + 1))), (0, .ref (a 0))]) hx hb dX1_spare_24 hl (k := 2) rfl (by decide) rfl (fun ls hl => ?_)
      refine lv_goto (tgt := 4) hx hb dX1_spare_27 (by decide) ?_
      exact ih (t + 1) _ (by rw [hI]; exact (if_pos hc).symm) (lv_sub hl [2, 1, 0] rfl)
  · skip
    have hI : t = pf_sp lo rc := hI
    have hl : lv_has ls 3 [(0, .ref (a 0)), (1, .int (nI t)), (2, .int (nI rc))] := hl
    refine lv_iload_n hx hb dX1_spare_4 rfl (lv_at hl 2 rfl) ?_
    refine lv_aload_n hx hb dX1_spare_5 rfl (lv_at hl 0 rfl) ?_
    refine m_get hx hb hts hown hK hP rfl 2 (by decide) q186 rfl rfl dX1_spare_6 ?_
    refine na_icmp_ge (tgt := 30) hx hb dX1_spare_9 (by decide) (by omega) (by omega) (fun hc => ?_) (fun hc9 => absurd hc9 (by omega))
    refine lv_iload_n hx hb dX1_spare_30 rfl (lv_at hl 1 rfl) ?_
    exact pa_iretR hx hb hr hlk (by rw [hI]) dX1_spare_31
set_option maxHeartbeats 4000000 in
theorem r_write_1 (l : Launch) {D : va_G} {a : Nat → Nat} {cI cZ : ClassId} {rl st : Nat → Nat} {rc : Nat} {lo : Nat → Nat}  {bk pl vl : Int32} (hN : pa_N 4 a) (h : bk < 0 ∨ nI 6 ≤ bk) : Met l yX1_write (ws_ yX1_write cX1_write 6 (some .int)) (pa_rm 1 23) (PcX D clA [(cI, .int), (cZ, .boolean)] [.ref (a 0), .int bk, .int pl, .int vl] (WM a cI cZ rl st rc lo)) (QcXi (-1) D clA (WM a cI cZ rl st rc lo) (pa_A 4 a)) 0 0 (pa_A 4 a) := by
  refine pa_enter (by decide) (Nat.le_of_ble_eq_true rfl) (fun p e s m below meth c ls hx hb hr hlk hml hown hin hts hP hK hl => ?_)
  have hown : s.vm.findClass RX1 = some m.cls := hown
  have hl : lv_has ls 6 [(0, .ref (a 0)), (1, .int bk), (2, .int pl), (3, .int vl)] := hl
  have hS : va_S (pa_A 4 a) s.heap s.heap [] := va_S.rf
  refine lv_aload_n hx hb dX1_write_0 rfl (lv_at hl 0 rfl) ?_
  refine lv_iload_n hx hb dX1_write_1 rfl (lv_at hl 1 rfl) ?_
  refine lv_iload_n hx hb dX1_write_2 rfl (lv_at hl 2 rfl) ?_
  refine lv_iload_n hx hb dX1_write_3 rfl (lv_at hl 3 rfl) ?_
  refine pa_callR (ci := 1) (n := 3) ⟨hx, hb, hml, hown, hts⟩ (r_refusal_1 l h) hK hP rfl rfl (lw_V q201 q203 qs15 q19 q204) rfl rfl (by decide +kernel) ⟨by decide, by decide⟩ rfl hl.1 rfl (Nat.le_of_ble_eq_true rfl) dX1_write_4 ⟨Nat.le_refl _, Nat.le_refl _⟩ ?_
  refine lv_istore (lv' := [(4, .int (-1)), (0, .ref (a 0)), (1, .int bk), (2, .int pl), (3, .int vl)]) hx hb dX1_write_7 hl (by decide) rfl (fun ls hl => ?_)
  refine lv_iload hx hb dX1_write_9 (lv_at hl 0 rfl) ?_
  refine lv_if_ge (tgt := 17) hx hb dX1_write_11 (by decide) (fun hc9 => absurd hc9 (by decide)) (fun hc => ?_)
  refine lv_iload hx hb dX1_write_14 (lv_at hl 0 rfl) ?_
  exact pa_iretM hx hb hr hlk rfl hP hS dX1_write_16
set_option maxHeartbeats 4000000 in
theorem r_write_2 (l : Launch) {D : va_G} {a : Nat → Nat} {cI cZ : ClassId} {rl st : Nat → Nat} {rc : Nat} {lo : Nat → Nat} {b : Nat} {pl vl : Int32} (hN : pa_N 4 a) (hb1 : b < 6) (h : pl < 0 ∨ nI 8 ≤ pl) : Met l yX1_write (ws_ yX1_write cX1_write 6 (some .int)) (pa_rm 1 23) (PcX D clA [(cI, .int), (cZ, .boolean)] [.ref (a 0), .int (nI b), .int pl, .int vl] (WM a cI cZ rl st rc lo)) (QcXi (-2) D clA (WM a cI cZ rl st rc lo) (pa_A 4 a)) 0 0 (pa_A 4 a) := by
  refine pa_enter (by decide) (Nat.le_of_ble_eq_true rfl) (fun p e s m below meth c ls hx hb hr hlk hml hown hin hts hP hK hl => ?_)
  have hown : s.vm.findClass RX1 = some m.cls := hown
  have hl : lv_has ls 6 [(0, .ref (a 0)), (1, .int (nI b)), (2, .int pl), (3, .int vl)] := hl
  have hS : va_S (pa_A 4 a) s.heap s.heap [] := va_S.rf
  refine lv_aload_n hx hb dX1_write_0 rfl (lv_at hl 0 rfl) ?_
  refine lv_iload_n hx hb dX1_write_1 rfl (lv_at hl 1 rfl) ?_
  refine lv_iload_n hx hb dX1_write_2 rfl (lv_at hl 2 rfl) ?_
  refine lv_iload_n hx hb dX1_write_3 rfl (lv_at hl 3 rfl) ?_
  refine pa_callR (ci := 1) (n := 3) ⟨hx, hb, hml, hown, hts⟩ (r_refusal_2 l hb1 h) hK hP rfl rfl (lw_V q201 q203 qs15 q19 q204) rfl rfl (by decide +kernel) ⟨by decide, by decide⟩ rfl hl.1 rfl (Nat.le_of_ble_eq_true rfl) dX1_write_4 ⟨Nat.le_refl _, Nat.le_refl _⟩ ?_
  refine lv_istore (lv' := [(4, .int (-2)), (0, .ref (a 0)), (1, .int (nI b)), (2, .int pl), (3, .int vl)]) hx hb dX1_write_7 hl (by decide) rfl (fun ls hl => ?_)
  refine lv_iload hx hb dX1_write_9 (lv_at hl 0 rfl) ?_
  refine lv_if_ge (tgt := 17) hx hb dX1_write_11 (by decide) (fun hc9 => absurd hc9 (by decide)) (fun hc => ?_)
  refine lv_iload hx hb dX1_write_14 (lv_at hl 0 rfl) ?_
  exact pa_iretM hx hb hr hlk rfl hP hS dX1_write_16
set_option maxHeartbeats 4000000 in
theorem r_write_3 (l : Launch) {D : va_G} {a : Nat → Nat} {cI cZ : ClassId} {rl st : Nat → Nat} {rc : Nat} {lo : Nat → Nat} {b i : Nat} {vl : Int32} (hN : pa_N 4 a) (hb1 : b < 6) (hi1 : i < 8) (h : vl < 0 ∨ nI 256 ≤ vl) : Met l yX1_write (ws_ yX1_write cX1_write 6 (some .int)) (pa_rm 1 23) (PcX D clA [(cI, .int), (cZ, .boolean)] [.ref (a 0), .int (nI b), .int (nI i), .int vl] (WM a cI cZ rl st rc lo)) (QcXi (-3) D clA (WM a cI cZ rl st rc lo) (pa_A 4 a)) 0 0 (pa_A 4 a) := by
  refine pa_enter (by decide) (Nat.le_of_ble_eq_true rfl) (fun p e s m below meth c ls hx hb hr hlk hml hown hin hts hP hK hl => ?_)
  have hown : s.vm.findClass RX1 = some m.cls := hown
  have hl : lv_has ls 6 [(0, .ref (a 0)), (1, .int (nI b)), (2, .int (nI i)), (3, .int vl)] := hl
  have hS : va_S (pa_A 4 a) s.heap s.heap [] := va_S.rf
  refine lv_aload_n hx hb dX1_write_0 rfl (lv_at hl 0 rfl) ?_
  refine lv_iload_n hx hb dX1_write_1 rfl (lv_at hl 1 rfl) ?_
  refine lv_iload_n hx hb dX1_write_2 rfl (lv_at hl 2 rfl) ?_
  refine lv_iload_n hx hb dX1_write_3 rfl (lv_at hl 3 rfl) ?_
  refine pa_callR (ci := 1) (n := 3) ⟨hx, hb, hml, hown, hts⟩ (r_refusal_3 l hb1 hi1 h) hK hP rfl rfl (lw_V q201 q203 qs15 q19 q204) rfl rfl (by decide +kernel) ⟨by decide, by decide⟩ rfl hl.1 rfl (Nat.le_of_ble_eq_true rfl) dX1_write_4 ⟨Nat.le_refl _, Nat.le_refl _⟩ ?_
  refine lv_istore (lv' := [(4, .int (-3)), (0, .ref (a 0)), (1, .int (nI b)), (2, .int (nI i)), (3, .int vl)]) hx hb dX1_write_7 hl (by decide) rfl (fun ls hl => ?_)
  refine lv_iload hx hb dX1_write_9 (lv_at hl 0 rfl) ?_
  refine lv_if_ge (tgt := 17) hx hb dX1_write_11 (by decide) (fun hc9 => absurd hc9 (by decide)) (fun hc => ?_)
  refine lv_iload hx hb dX1_write_14 (lv_at hl 0 rfl) ?_
  exact pa_iretM hx hb hr hlk rfl hP hS dX1_write_16
set_option maxHeartbeats 4000000 in
theorem r_write_4 (l : Launch) {D : va_G} {a : Nat → Nat} {cI cZ : ClassId} {rl st : Nat → Nat} {rc : Nat} {lo : Nat → Nat} {b i v : Nat}  (hN : pa_N 4 a) (hst : ∀ j, st j < 3) (hb1 : b < 6) (hi1 : i < 8) (hv1 : v < 256) (h : st b ≠ 0) : Met l yX1_write (ws_ yX1_write cX1_write 6 (some .int)) (pa_rm 1 23) (PcX D clA [(cI, .int), (cZ, .boolean)] [.ref (a 0), .int (nI b), .int (nI i), .int (nI v)] (WM a cI cZ rl st rc lo)) (QcXi (-4) D clA (WM a cI cZ rl st rc lo) (pa_A 4 a)) 0 0 (pa_A 4 a) := by
  refine pa_enter (by decide) (Nat.le_of_ble_eq_true rfl) (fun p e s m below meth c ls hx hb hr hlk hml hown hin hts hP hK hl => ?_)
  have hown : s.vm.findClass RX1 = some m.cls := hown
  have hl : lv_has ls 6 [(0, .ref (a 0)), (1, .int (nI b)), (2, .int (nI i)), (3, .int (nI v))] := hl
  have hS : va_S (pa_A 4 a) s.heap s.heap [] := va_S.rf
  refine lv_aload_n hx hb dX1_write_0 rfl (lv_at hl 0 rfl) ?_
  refine lv_iload_n hx hb dX1_write_1 rfl (lv_at hl 1 rfl) ?_
  refine lv_iload_n hx hb dX1_write_2 rfl (lv_at hl 2 rfl) ?_
  refine lv_iload_n hx hb dX1_write_3 rfl (lv_at hl 3 rfl) ?_
  refine pa_callR (ci := 1) (n := 3) ⟨hx, hb, hml, hown, hts⟩ (r_refusal_4 l hst hb1 hi1 hv1 h) hK hP rfl rfl (lw_V q201 q203 qs15 q19 q204) rfl rfl (by decide +kernel) ⟨by decide, by decide⟩ rfl hl.1 rfl (Nat.le_of_ble_eq_true rfl) dX1_write_4 ⟨Nat.le_refl _, Nat.le_refl _⟩ ?_
  refine lv_istore (lv' := [(4, .int (-4)), (0, .ref (a 0)), (1, .int (nI b)), (2, .int (nI i)), (3, .int (nI v))]) hx hb dX1_write_7 hl (by decide) rfl (fun ls hl => ?_)
  refine lv_iload hx hb dX1_write_9 (lv_at hl 0 rfl) ?_
  refine lv_if_ge (tgt := 17) hx hb dX1_write_11 (by decide) (fun hc9 => absurd hc9 (by decide)) (fun hc => ?_)
  refine lv_iload hx hb dX1_write_14 (lv_at hl 0 rfl) ?_
  exact pa_iretM hx hb hr hlk rfl hP hS dX1_write_16
set_option maxHeartbeats 4000000 in
theorem r_write_5 (l : Launch) {D : va_G} {a : Nat → Nat} {cI cZ : ClassId} {rl st : Nat → Nat} {rc : Nat} {lo : Nat → Nat} {b i v : Nat}  (hN : pa_N 4 a) (hst : ∀ j, st j < 3) (hb1 : b < 6) (hi1 : i < 8) (hv1 : v < 256) (h : st b = 0) : Met l yX1_write (ws_ yX1_write cX1_write 6 (some .int)) (pa_rm 1 23) (PcX D clA [(cI, .int), (cZ, .boolean)] [.ref (a 0), .int (nI b), .int (nI i), .int (nI v)] (WM a cI cZ rl st rc lo)) (QcXi (nI (rl (b * 8 + i))) D clA (WM a cI cZ (pa_u rl (b * 8 + i) v) st rc lo) (pa_A 4 a)) 0 0 (pa_A 4 a) := by
  refine pa_enter (by decide) (Nat.le_of_ble_eq_true rfl) (fun p e s m below meth c ls hx hb hr hlk hml hown hin hts hP hK hl => ?_)
  have hown : s.vm.findClass RX1 = some m.cls := hown
  have hl : lv_has ls 6 [(0, .ref (a 0)), (1, .int (nI b)), (2, .int (nI i)), (3, .int (nI v))] := hl
  have hS : va_S (pa_A 4 a) s.heap s.heap [] := va_S.rf
  refine lv_aload_n hx hb dX1_write_0 rfl (lv_at hl 0 rfl) ?_
  refine lv_iload_n hx hb dX1_write_1 rfl (lv_at hl 1 rfl) ?_
  refine lv_iload_n hx hb dX1_write_2 rfl (lv_at hl 2 rfl) ?_
  refine lv_iload_n hx hb dX1_write_3 rfl (lv_at hl 3 rfl) ?_
  refine pa_callR (ci := 1) (n := 3) ⟨hx, hb, hml, hown, hts⟩ (r_refusal_5 l hst hb1 hi1 hv1 h) hK hP rfl rfl (lw_V q201 q203 qs15 q19 q204) rfl rfl (by decide +kernel) ⟨by decide, by decide⟩ rfl hl.1 rfl (Nat.le_of_ble_eq_true rfl) dX1_write_4 ⟨Nat.le_refl _, Nat.le_refl _⟩ ?_
  refine lv_istore (lv' := [(4, .int (nI 0)), (0, .ref (a 0)), (1, .int (nI b)), (2, .int (nI i)), (3, .int (nI v))]) hx hb dX1_write_7 hl (by decide) rfl (fun ls hl => ?_)
  refine lv_iload hx hb dX1_write_9 (lv_at hl 0 rfl) ?_
  refine na_if_ge (tgt := 17) hx hb dX1_write_11 (by decide) (by omega) ?_
  refine lv_aload_n hx hb dX1_write_17 rfl (lv_at hl 1 rfl) ?_
  refine m_get hx hb hts hown hK hP rfl 0 (by decide) q184 rfl rfl dX1_write_18 ?_
  refine lv_iload_n hx hb dX1_write_21 rfl (lv_at hl 2 rfl) ?_
  refine lv_bipush (v := nI 8) hx hb dX1_write_22 (by decide) ?_
  refine na_mul hx hb dX1_write_24 ?_
  refine lv_iload_n hx hb dX1_write_25 rfl (lv_at hl 3 rfl) ?_
  refine na_add hx hb dX1_write_26 ?_
  refine ra_ld hx hb hK hP 1 0 rfl rfl (by omega) (by decide) dX1_write_27 ?_
  refine lv_istore (lv' := [(5, .int (nI (rl ((b * 8) + i)))), (4, .int (nI 0)), (0, .ref (a 0)), (1, .int (nI b)), (2, .int (nI i)), (3, .int (nI v))]) hx hb dX1_write_28 hl (by decide) rfl (fun ls hl => ?_)
  refine lv_aload_n hx hb dX1_write_30 rfl (lv_at hl 2 rfl) ?_
  refine m_get hx hb hts hown hK hP rfl 0 (by decide) q184 rfl rfl dX1_write_31 ?_
  refine lv_iload_n hx hb dX1_write_34 rfl (lv_at hl 3 rfl) ?_
  refine lv_bipush (v := nI 8) hx hb dX1_write_35 (by decide) ?_
  refine na_mul hx hb dX1_write_37 ?_
  refine lv_iload_n hx hb dX1_write_38 rfl (lv_at hl 4 rfl) ?_
  refine na_add hx hb dX1_write_39 ?_
  refine lv_iload_n hx hb dX1_write_40 rfl (lv_at hl 5 rfl) ?_
  refine ra_st (ws' := WM a cI cZ (pa_u rl ((b * 8) + i) v) st rc lo) hx hb hK hP (WM_D hN) hS 1 0 rfl rfl (by omega) (by decide) dX1_write_41 rfl (fun H locs hP hS => ?_)
  refine lv_iload hx hb dX1_write_42 (lv_at hl 0 rfl) ?_
  exact pa_iretM hx hb hr hlk rfl hP hS dX1_write_44
set_option maxHeartbeats 4000000 in
theorem r_protect_1 (l : Launch) {D : va_G} {a : Nat → Nat} {cI cZ : ClassId} {rl st : Nat → Nat} {rc : Nat} {lo : Nat → Nat}  {mm : Int32} (hN : pa_N 4 a) (h : mm < 0 ∨ nI 5 ≤ mm) : Met l yX1_protect (ws_ yX1_protect cX1_protect 3 (some .int)) (pa_rm 1 22) (PcX D clA [(cI, .int), (cZ, .boolean)] [.ref (a 0), .int mm] (WM a cI cZ rl st rc lo)) (QcXi (-3) D clA (WM a cI cZ rl st rc lo) (pa_A 4 a)) 0 0 (pa_A 4 a) := by
  refine pa_enter (by decide) (Nat.le_of_ble_eq_true rfl) (fun p e s m below meth c ls hx hb hr hlk hml hown hin hts hP hK hl => ?_)
  have hown : s.vm.findClass RX1 = some m.cls := hown
  have hl : lv_has ls 3 [(0, .ref (a 0)), (1, .int mm)] := hl
  have hS : va_S (pa_A 4 a) s.heap s.heap [] := va_S.rf
  rcases h with h | h
  · skip
    refine lv_iload_n hx hb dX1_protect_0 rfl (lv_at hl 1 rfl) ?_
    refine lv_if_lt (tgt := 9) hx hb dX1_protect_1 (by decide) (fun hc => ?_) (fun hc9 => absurd hc9 (fun q => q h))
    refine lv_bipush (v := (-3)) hx hb dX1_protect_9 (by decide) ?_
    exact pa_iretM hx hb hr hlk rfl hP hS dX1_protect_11
  · skip
    refine lv_iload_n hx hb dX1_protect_0 rfl (lv_at hl 1 rfl) ?_
    refine lv_if_lt (tgt := 9) hx hb dX1_protect_1 (by decide) (fun hc9 => absurd hc9 (fun q => absurd (Int32.lt_of_le_of_lt h q) (by decide))) (fun hc => ?_)
    refine lv_iload_n hx hb dX1_protect_4 rfl (lv_at hl 1 rfl) ?_
    refine lv_iconst (v := nI 4) hx hb dX1_protect_5 (by decide) ?_
    refine lv_icmp_le (tgt := 12) hx hb dX1_protect_6 (by decide) (fun hc9 => absurd hc9 (fun q => absurd (Int32.le_trans h q) (by decide))) (fun hc => ?_)
    refine lv_bipush (v := (-3)) hx hb dX1_protect_9 (by decide) ?_
    exact pa_iretM hx hb hr hlk rfl hP hS dX1_protect_11
set_option maxHeartbeats 4000000 in
theorem r_protect_2 (l : Launch) {D : va_G} {a : Nat → Nat} {cI cZ : ClassId} {rl st : Nat → Nat} {rc : Nat} {lo : Nat → Nat} {k : Nat}  (hN : pa_N 4 a) (hst : ∀ j, st j < 3) (hk1 : k < 5) (h : 0 < pf_ng st 6) : Met l yX1_protect (ws_ yX1_protect cX1_protect 3 (some .int)) (pa_rm 1 22) (PcX D clA [(cI, .int), (cZ, .boolean)] [.ref (a 0), .int (nI k)] (WM a cI cZ rl st rc lo)) (QcXi (-4) D clA (WM a cI cZ rl st rc lo) (pa_A 4 a)) 0 0 (pa_A 4 a) := by
  refine pa_enter (by decide) (Nat.le_of_ble_eq_true rfl) (fun p e s m below meth c ls hx hb hr hlk hml hown hin hts hP hK hl => ?_)
  have hown : s.vm.findClass RX1 = some m.cls := hown
  have hl : lv_has ls 3 [(0, .ref (a 0)), (1, .int (nI k))] := hl
  have hS : va_S (pa_A 4 a) s.heap s.heap [] := va_S.rf
  have hs := pf_ng_le st 6
  refine lv_iload_n hx hb dX1_protect_0 rfl (lv_at hl 1 rfl) ?_
  refine na_if_lt (tgt := 9) hx hb dX1_protect_1 (by decide) (by omega) ?_
  refine lv_iload_n hx hb dX1_protect_4 rfl (lv_at hl 1 rfl) ?_
  refine lv_iconst (v := nI 4) hx hb dX1_protect_5 (by decide) ?_
  refine na_icmp_le (tgt := 12) hx hb dX1_protect_6 (by decide) (by omega) (by omega) (fun hc => ?_) (fun hc9 => absurd hc9 (by omega))
  refine lv_aload_n hx hb dX1_protect_12 rfl (lv_at hl 0 rfl) ?_
  refine pa_callR (ci := 1) (n := 0) ⟨hx, hb, hml, hown, hts⟩ (r_notGood l hst) hK hP rfl rfl (lw_V q209 q211 qs16 q19 q212) rfl rfl (by decide +kernel) ⟨by decide, by decide⟩ rfl hl.1 rfl (Nat.le_of_ble_eq_true rfl) dX1_protect_13 ⟨Nat.le_refl _, Nat.le_refl _⟩ ?_
  refine na_if_le (tgt := 22) hx hb dX1_protect_16 (by decide) (by omega) (fun hc9 => absurd hc9 (by omega)) (fun hc => ?_)
  refine lv_bipush (v := (-4)) hx hb dX1_protect_19 (by decide) ?_
  exact pa_iretM hx hb hr hlk rfl hP hS dX1_protect_21
set_option maxHeartbeats 4000000 in
theorem r_protect_3 (l : Launch) {D : va_G} {a : Nat → Nat} {cI cZ : ClassId} {rl st : Nat → Nat} {rc : Nat} {lo : Nat → Nat} {k : Nat}  (hN : pa_N 4 a) (hst : ∀ j, st j < 3) (hk1 : k < 5) (h : pf_ng st 6 = 0) : Met l yX1_protect (ws_ yX1_protect cX1_protect 3 (some .int)) (pa_rm 1 22) (PcX D clA [(cI, .int), (cZ, .boolean)] [.ref (a 0), .int (nI k)] (WM a cI cZ rl st rc lo)) (QcXi (nI k) D clA (WM a cI cZ rl st k (pf_z lo 4)) (pa_A 4 a)) 0 0 (pa_A 4 a) := by
  refine pa_enter (by decide) (Nat.le_of_ble_eq_true rfl) (fun p e s m below meth c ls hx hb hr hlk hml hown hin hts hP hK hl => ?_)
  have hown : s.vm.findClass RX1 = some m.cls := hown
  have hl : lv_has ls 3 [(0, .ref (a 0)), (1, .int (nI k))] := hl
  have hS : va_S (pa_A 4 a) s.heap s.heap [] := va_S.rf
  refine lv_iload_n hx hb dX1_protect_0 rfl (lv_at hl 1 rfl) ?_
  refine na_if_lt (tgt := 9) hx hb dX1_protect_1 (by decide) (by omega) ?_
  refine lv_iload_n hx hb dX1_protect_4 rfl (lv_at hl 1 rfl) ?_
  refine lv_iconst (v := nI 4) hx hb dX1_protect_5 (by decide) ?_
  refine na_icmp_le (tgt := 12) hx hb dX1_protect_6 (by decide) (by omega) (by omega) (fun hc => ?_) (fun hc9 => absurd hc9 (by omega))
  refine lv_aload_n hx hb dX1_protect_12 rfl (lv_at hl 0 rfl) ?_
  refine pa_callR (ci := 1) (n := 0) ⟨hx, hb, hml, hown, hts⟩ (r_notGood l hst) hK hP rfl rfl (lw_V q209 q211 qs16 q19 q212) rfl rfl (by decide +kernel) ⟨by decide, by decide⟩ rfl hl.1 rfl (Nat.le_of_ble_eq_true rfl) dX1_protect_13 ⟨Nat.le_refl _, Nat.le_refl _⟩ ?_
  refine na_if_le (tgt := 22) hx hb dX1_protect_16 (by decide) (by omega) (fun hc => ?_) (fun hc9 => absurd hc9 (by omega))
  refine lv_aload_n hx hb dX1_protect_22 rfl (lv_at hl 0 rfl) ?_
  refine lv_iload_n hx hb dX1_protect_23 rfl (lv_at hl 1 rfl) ?_
  refine m_put (ws' := WM a cI cZ rl st k lo) hx hb hts hown hK hP (WM_D hN) hS rfl 2 (by decide) q186 rfl rfl (by decide +kernel) (Nat.le_of_ble_eq_true rfl) dX1_protect_24 rfl (fun H locs hP hS => ?_)
  refine lv_iconst (v := nI 0) hx hb dX1_protect_27 (by decide) ?_
  refine lv_istore_n (lv' := [(2, .int (nI 0)), (0, .ref (a 0)), (1, .int (nI k))]) hx hb dX1_protect_28 rfl hl (by decide) rfl (fun ls hl => ?_)
  refine pa_lpm (nL := 3) (fun i (x : (Nat → Nat)) => x = pf_z lo i) (fun i (x : (Nat → Nat)) => [(0, .ref (a 0)), (1, .int (nI k)), (2, .int (nI i))]) (fun i (x : (Nat → Nat)) => WM a cI cZ rl st k x) 0 4 (by omega) (lo) rfl (lv_sub hl [1, 2, 0] rfl) hP hS (fun i f H locs ls hge hhi hI hl hP hS ih => ?_) (fun f H locs ls hI hl hP hS => ?_)
  · skip
    have hI : f = pf_z lo i := hI
    have hl : lv_has ls 3 [(0, .ref (a 0)), (1, .int (nI k)), (2, .int (nI i))] := hl
    have hP : va_P D clA (WM a cI cZ rl st k f) H := hP
    refine lv_iload_n hx hb dX1_protect_29 rfl (lv_at hl 2 rfl) ?_
    refine lv_iconst (v := nI 4) hx hb dX1_protect_30 (by decide) ?_
    refine na_icmp_ge (tgt := 47) hx hb dX1_protect_31 (by decide) (by omega) (by omega) (fun hc9 => absurd hc9 (by omega)) (fun hc => ?_)
    refine lv_aload_n hx hb dX1_protect_34 rfl (lv_at hl 0 rfl) ?_
    refine m_get hx hb hts hown hK hP rfl 3 (by decide) q187 rfl rfl dX1_protect_35 ?_
    refine lv_iload_n hx hb dX1_protect_38 rfl (lv_at hl 2 rfl) ?_
    refine lv_iconst (v := nI 0) hx hb dX1_protect_39 (by decide) ?_
    refine rz_st (ws' := WM a cI cZ rl st k (pa_u f i 0)) hx hb hK hP (WM_D hN) hS 3 1 rfl rfl (by omega) (by decide) (by decide) dX1_protect_40 rfl (fun H locs hP hS => ?_)
    refine na_iinc (lv' := [(2, .int (nI (i + 1))), (0, .ref (a 0)), (1, .int (nI k))]) hx hb dX1_protect_41 hl (k := 2) rfl (by decide) rfl (fun ls hl => ?_)
    refine lv_goto (tgt := 29) hx hb dX1_protect_44 (by decide) ?_
    exact ih (pa_u f i 0) _ _ _ (by rw [hI]; rfl) (lv_sub hl [1, 2, 0] rfl) hP hS
  · skip
    have hI : f = pf_z lo 4 := hI
    have hl : lv_has ls 3 [(0, .ref (a 0)), (1, .int (nI k)), (2, .int (nI 4))] := hl
    have hP : va_P D clA (WM a cI cZ rl st k f) H := hP
    refine lv_iload_n hx hb dX1_protect_29 rfl (lv_at hl 2 rfl) ?_
    refine lv_iconst (v := nI 4) hx hb dX1_protect_30 (by decide) ?_
    refine na_icmp_ge (tgt := 47) hx hb dX1_protect_31 (by decide) (by omega) (by omega) (fun hc => ?_) (fun hc9 => absurd hc9 (by omega))
    refine lv_iload_n hx hb dX1_protect_47 rfl (lv_at hl 1 rfl) ?_
    exact pa_iretM hx hb hr hlk rfl (by rw [hI] at hP; exact hP) hS dX1_protect_48
set_option maxHeartbeats 4000000 in
theorem r_lose_1 (l : Launch) {D : va_G} {a : Nat → Nat} {cI cZ : ClassId} {rl st : Nat → Nat} {rc : Nat} {lo : Nat → Nat}  {bk : Int32} (hN : pa_N 4 a) (h : bk < 0 ∨ nI 6 ≤ bk) : Met l yX1_lose (ws_ yX1_lose cX1_lose 3 (some .int)) (pa_rm 0 0) (PcX D clA [(cI, .int), (cZ, .boolean)] [.ref (a 0), .int bk] (WM a cI cZ rl st rc lo)) (QcXi (-1) D clA (WM a cI cZ rl st rc lo) (pa_A 4 a)) 0 0 (pa_A 4 a) := by
  refine pa_enter (by decide) (Nat.le_of_ble_eq_true rfl) (fun p e s m below meth c ls hx hb hr hlk hml hown hin hts hP hK hl => ?_)
  have hown : s.vm.findClass RX1 = some m.cls := hown
  have hl : lv_has ls 3 [(0, .ref (a 0)), (1, .int bk)] := hl
  have hS : va_S (pa_A 4 a) s.heap s.heap [] := va_S.rf
  rcases h with h | h
  · skip
    refine lv_iload_n hx hb dX1_lose_0 rfl (lv_at hl 1 rfl) ?_
    refine lv_if_lt (tgt := 9) hx hb dX1_lose_1 (by decide) (fun hc => ?_) (fun hc9 => absurd hc9 (fun q => q h))
    refine lv_iconst (v := (-1)) hx hb dX1_lose_9 (by decide) ?_
    exact pa_iretM hx hb hr hlk rfl hP hS dX1_lose_10
  · skip
    refine lv_iload_n hx hb dX1_lose_0 rfl (lv_at hl 1 rfl) ?_
    refine lv_if_lt (tgt := 9) hx hb dX1_lose_1 (by decide) (fun hc9 => absurd hc9 (fun q => absurd (Int32.lt_of_le_of_lt h q) (by decide))) (fun hc => ?_)
    refine lv_iload_n hx hb dX1_lose_4 rfl (lv_at hl 1 rfl) ?_
    refine lv_iconst (v := nI 5) hx hb dX1_lose_5 (by decide) ?_
    refine lv_icmp_le (tgt := 11) hx hb dX1_lose_6 (by decide) (fun hc9 => absurd hc9 (fun q => absurd (Int32.le_trans h q) (by decide))) (fun hc => ?_)
    refine lv_iconst (v := (-1)) hx hb dX1_lose_9 (by decide) ?_
    exact pa_iretM hx hb hr hlk rfl hP hS dX1_lose_10
set_option maxHeartbeats 4000000 in
theorem r_lose_2 (l : Launch) {D : va_G} {a : Nat → Nat} {cI cZ : ClassId} {rl st : Nat → Nat} {rc : Nat} {lo : Nat → Nat} {b : Nat}  (hN : pa_N 4 a) (hb1 : b < 6) : Met l yX1_lose (ws_ yX1_lose cX1_lose 3 (some .int)) (pa_rm 0 0) (PcX D clA [(cI, .int), (cZ, .boolean)] [.ref (a 0), .int (nI b)] (WM a cI cZ rl st rc lo)) (QcXi (nI (st b)) D clA (WM a cI cZ rl (pa_u st b 1) rc lo) (pa_A 4 a)) 0 0 (pa_A 4 a) := by
  refine pa_enter (by decide) (Nat.le_of_ble_eq_true rfl) (fun p e s m below meth c ls hx hb hr hlk hml hown hin hts hP hK hl => ?_)
  have hown : s.vm.findClass RX1 = some m.cls := hown
  have hl : lv_has ls 3 [(0, .ref (a 0)), (1, .int (nI b))] := hl
  have hS : va_S (pa_A 4 a) s.heap s.heap [] := va_S.rf
  refine lv_iload_n hx hb dX1_lose_0 rfl (lv_at hl 1 rfl) ?_
  refine na_if_lt (tgt := 9) hx hb dX1_lose_1 (by decide) (by omega) ?_
  refine lv_iload_n hx hb dX1_lose_4 rfl (lv_at hl 1 rfl) ?_
  refine lv_iconst (v := nI 5) hx hb dX1_lose_5 (by decide) ?_
  refine na_icmp_le (tgt := 11) hx hb dX1_lose_6 (by decide) (by omega) (by omega) (fun hc => ?_) (fun hc9 => absurd hc9 (by omega))
  refine lv_aload_n hx hb dX1_lose_11 rfl (lv_at hl 0 rfl) ?_
  refine m_get hx hb hts hown hK hP rfl 1 (by decide) q185 rfl rfl dX1_lose_12 ?_
  refine lv_iload_n hx hb dX1_lose_15 rfl (lv_at hl 1 rfl) ?_
  refine ra_ld hx hb hK hP 2 0 rfl rfl (by omega) (by decide) dX1_lose_16 ?_
  refine lv_istore_n (lv' := [(2, .int (nI (st b))), (0, .ref (a 0)), (1, .int (nI b))]) hx hb dX1_lose_17 rfl hl (by decide) rfl (fun ls hl => ?_)
  refine lv_aload_n hx hb dX1_lose_18 rfl (lv_at hl 1 rfl) ?_
  refine m_get hx hb hts hown hK hP rfl 1 (by decide) q185 rfl rfl dX1_lose_19 ?_
  refine lv_iload_n hx hb dX1_lose_22 rfl (lv_at hl 2 rfl) ?_
  refine lv_iconst (v := nI 1) hx hb dX1_lose_23 (by decide) ?_
  refine ra_st (ws' := WM a cI cZ rl (pa_u st b 1) rc lo) hx hb hK hP (WM_D hN) hS 2 0 rfl rfl (by omega) (by decide) dX1_lose_24 rfl (fun H locs hP hS => ?_)
  refine lv_iload_n hx hb dX1_lose_25 rfl (lv_at hl 0 rfl) ?_
  exact pa_iretM hx hb hr hlk rfl hP hS dX1_lose_26
set_option maxHeartbeats 4000000 in
theorem r_loseRecovery_1 (l : Launch) {D : va_G} {a : Nat → Nat} {cI cZ : ClassId} {rl st : Nat → Nat} {rc : Nat} {lo : Nat → Nat}  {rr : Int32} (hN : pa_N 4 a) (hrc : rc ≤ 4) (h : rr < 0 ∨ nI rc ≤ rr) : Met l yX1_loseRecovery (ws_ yX1_loseRecovery cX1_loseRecovery 3 (some .int)) (pa_rm 0 0) (PcX D clA [(cI, .int), (cZ, .boolean)] [.ref (a 0), .int rr] (WM a cI cZ rl st rc lo)) (QcXi (-5) D clA (WM a cI cZ rl st rc lo) (pa_A 4 a)) 0 0 (pa_A 4 a) := by
  refine pa_enter (by decide) (Nat.le_of_ble_eq_true rfl) (fun p e s m below meth c ls hx hb hr hlk hml hown hin hts hP hK hl => ?_)
  have hown : s.vm.findClass RX1 = some m.cls := hown
  have hl : lv_has ls 3 [(0, .ref (a 0)), (1, .int rr)] := hl
  have hS : va_S (pa_A 4 a) s.heap s.heap [] := va_S.rf
  rcases h with h | h
  · skip
    refine lv_iload_n hx hb dX1_loseRecovery_0 rfl (lv_at hl 1 rfl) ?_
    refine lv_if_lt (tgt := 12) hx hb dX1_loseRecovery_1 (by decide) (fun hc => ?_) (fun hc9 => absurd hc9 (fun q => q h))
    refine lv_bipush (v := (-5)) hx hb dX1_loseRecovery_12 (by decide) ?_
    exact pa_iretM hx hb hr hlk rfl hP hS dX1_loseRecovery_14
  · skip
    refine lv_iload_n hx hb dX1_loseRecovery_0 rfl (lv_at hl 1 rfl) ?_
    refine lv_if_lt (tgt := 12) hx hb dX1_loseRecovery_1 (by decide) (fun hc9 => absurd hc9 (fun q => absurd (Int32.lt_of_le_of_lt h q) (nI_pos (by omega)))) (fun hc => ?_)
    refine lv_iload_n hx hb dX1_loseRecovery_4 rfl (lv_at hl 1 rfl) ?_
    refine lv_aload_n hx hb dX1_loseRecovery_5 rfl (lv_at hl 0 rfl) ?_
    refine m_get hx hb hts hown hK hP rfl 2 (by decide) q186 rfl rfl dX1_loseRecovery_6 ?_
    refine lv_icmp_lt (tgt := 15) hx hb dX1_loseRecovery_9 (by decide) (fun hc9 => absurd hc9 (fun q => absurd (Int32.lt_of_le_of_lt h q) Int32.lt_irrefl)) (fun hc => ?_)
    refine lv_bipush (v := (-5)) hx hb dX1_loseRecovery_12 (by decide) ?_
    exact pa_iretM hx hb hr hlk rfl hP hS dX1_loseRecovery_14
set_option maxHeartbeats 4000000 in
theorem r_loseRecovery_2 (l : Launch) {D : va_G} {a : Nat → Nat} {cI cZ : ClassId} {rl st : Nat → Nat} {rc : Nat} {lo : Nat → Nat} {k : Nat}  (hN : pa_N 4 a) (hrc : rc ≤ 4) (hlo : ∀ j, lo j < 2) (hk1 : k < rc) : Met l yX1_loseRecovery (ws_ yX1_loseRecovery cX1_loseRecovery 3 (some .int)) (pa_rm 0 0) (PcX D clA [(cI, .int), (cZ, .boolean)] [.ref (a 0), .int (nI k)] (WM a cI cZ rl st rc lo)) (QcXi (nI (if lo k = 0 then 0 else 1)) D clA (WM a cI cZ rl st rc (pa_u lo k 1)) (pa_A 4 a)) 0 0 (pa_A 4 a) := by
  refine pa_enter (by decide) (Nat.le_of_ble_eq_true rfl) (fun p e s m below meth c ls hx hb hr hlk hml hown hin hts hP hK hl => ?_)
  have hown : s.vm.findClass RX1 = some m.cls := hown
  have hl : lv_has ls 3 [(0, .ref (a 0)), (1, .int (nI k))] := hl
  have hS : va_S (pa_A 4 a) s.heap s.heap [] := va_S.rf
  have hs := hlo k
  refine lv_iload_n hx hb dX1_loseRecovery_0 rfl (lv_at hl 1 rfl) ?_
  refine na_if_lt (tgt := 12) hx hb dX1_loseRecovery_1 (by decide) (by omega) ?_
  refine lv_iload_n hx hb dX1_loseRecovery_4 rfl (lv_at hl 1 rfl) ?_
  refine lv_aload_n hx hb dX1_loseRecovery_5 rfl (lv_at hl 0 rfl) ?_
  refine m_get hx hb hts hown hK hP rfl 2 (by decide) q186 rfl rfl dX1_loseRecovery_6 ?_
  refine na_icmp_lt (tgt := 15) hx hb dX1_loseRecovery_9 (by decide) (by omega) (by omega) (fun hc => ?_) (fun hc9 => absurd hc9 (by omega))
  refine lv_aload_n hx hb dX1_loseRecovery_15 rfl (lv_at hl 0 rfl) ?_
  refine m_get hx hb hts hown hK hP rfl 3 (by decide) q187 rfl rfl dX1_loseRecovery_16 ?_
  refine lv_iload_n hx hb dX1_loseRecovery_19 rfl (lv_at hl 1 rfl) ?_
  refine rz_ld hx hb hK hP 3 1 rfl rfl (by omega) (by decide) dX1_loseRecovery_20 ?_
  refine na_if_eq (tgt := 28) hx hb dX1_loseRecovery_21 (by decide) (by omega) (fun hc => ?_) (fun hc => ?_)
  · skip
    refine lv_iconst (v := nI 0) hx hb dX1_loseRecovery_28 (by decide) ?_
    refine lv_istore_n (lv' := [(2, .int (nI 0)), (0, .ref (a 0)), (1, .int (nI k))]) hx hb dX1_loseRecovery_29 rfl hl (by decide) rfl (fun ls hl => ?_)
    refine lv_aload_n hx hb dX1_loseRecovery_30 rfl (lv_at hl 1 rfl) ?_
    refine m_get hx hb hts hown hK hP rfl 3 (by decide) q187 rfl rfl dX1_loseRecovery_31 ?_
    refine lv_iload_n hx hb dX1_loseRecovery_34 rfl (lv_at hl 2 rfl) ?_
    refine lv_iconst (v := nI 1) hx hb dX1_loseRecovery_35 (by decide) ?_
    refine rz_st (ws' := WM a cI cZ rl st rc (pa_u lo k 1)) hx hb hK hP (WM_D hN) hS 3 1 rfl rfl (by omega) (by decide) (by decide) dX1_loseRecovery_36 rfl (fun H locs hP hS => ?_)
    refine lv_iload_n hx hb dX1_loseRecovery_37 rfl (lv_at hl 0 rfl) ?_
    exact pa_iretM hx hb hr hlk (by rw [if_pos hc]) hP hS dX1_loseRecovery_38
  · skip
    refine lv_iconst (v := nI 1) hx hb dX1_loseRecovery_24 (by decide) ?_
    refine lv_goto (tgt := 29) hx hb dX1_loseRecovery_25 (by decide) ?_
    refine lv_istore_n (lv' := [(2, .int (nI 1)), (0, .ref (a 0)), (1, .int (nI k))]) hx hb dX1_loseRecovery_29 rfl hl (by decide) rfl (fun ls hl => ?_)
    refine lv_aload_n hx hb dX1_loseRecovery_30 rfl (lv_at hl 1 rfl) ?_
    refine m_get hx hb hts hown hK hP rfl 3 (by decide) q187 rfl rfl dX1_loseRecovery_31 ?_
    refine lv_iload_n hx hb dX1_loseRecovery_34 rfl (lv_at hl 2 rfl) ?_
    refine lv_iconst (v := nI 1) hx hb dX1_loseRecovery_35 (by decide) ?_
    refine rz_st (ws' := WM a cI cZ rl st rc (pa_u lo k 1)) hx hb hK hP (WM_D hN) hS 3 1 rfl rfl (by omega) (by decide) (by decide) dX1_loseRecovery_36 rfl (fun H locs hP hS => ?_)
    refine lv_iload_n hx hb dX1_loseRecovery_37 rfl (lv_at hl 0 rfl) ?_
    exact pa_iretM hx hb hr hlk (by rw [if_neg hc]) hP hS dX1_loseRecovery_38
set_option maxHeartbeats 4000000 in
theorem r_spoil_1 (l : Launch) {D : va_G} {a : Nat → Nat} {cI cZ : ClassId} {rl st : Nat → Nat} {rc : Nat} {lo : Nat → Nat}  {bk pl bt : Int32} (hN : pa_N 4 a) (h : bk < 0 ∨ nI 6 ≤ bk) : Met l yX1_spoil (ws_ yX1_spoil cX1_spoil 5 (some .int)) (pa_rm 1 23) (PcX D clA [(cI, .int), (cZ, .boolean)] [.ref (a 0), .int bk, .int pl, .int bt] (WM a cI cZ rl st rc lo)) (QcXi (-1) D clA (WM a cI cZ rl st rc lo) (pa_A 4 a)) 0 0 (pa_A 4 a) := by
  refine pa_enter (by decide) (Nat.le_of_ble_eq_true rfl) (fun p e s m below meth c ls hx hb hr hlk hml hown hin hts hP hK hl => ?_)
  have hown : s.vm.findClass RX1 = some m.cls := hown
  have hl : lv_has ls 5 [(0, .ref (a 0)), (1, .int bk), (2, .int pl), (3, .int bt)] := hl
  have hS : va_S (pa_A 4 a) s.heap s.heap [] := va_S.rf
  refine lv_aload_n hx hb dX1_spoil_0 rfl (lv_at hl 0 rfl) ?_
  refine lv_iload_n hx hb dX1_spoil_1 rfl (lv_at hl 1 rfl) ?_
  refine lv_iload_n hx hb dX1_spoil_2 rfl (lv_at hl 2 rfl) ?_
  refine lv_iconst (v := nI 0) hx hb dX1_spoil_3 (by decide) ?_
  refine pa_callR (ci := 1) (n := 3) ⟨hx, hb, hml, hown, hts⟩ (r_refusal_1 l h) hK hP rfl rfl (lw_V q201 q203 qs15 q19 q204) rfl rfl (by decide +kernel) ⟨by decide, by decide⟩ rfl hl.1 rfl (Nat.le_of_ble_eq_true rfl) dX1_spoil_4 ⟨Nat.le_refl _, Nat.le_refl _⟩ ?_
  refine lv_istore (lv' := [(4, .int (-1)), (0, .ref (a 0)), (1, .int bk), (2, .int pl), (3, .int bt)]) hx hb dX1_spoil_7 hl (by decide) rfl (fun ls hl => ?_)
  refine lv_iload hx hb dX1_spoil_9 (lv_at hl 0 rfl) ?_
  refine lv_if_ge (tgt := 17) hx hb dX1_spoil_11 (by decide) (fun hc9 => absurd hc9 (by decide)) (fun hc => ?_)
  refine lv_iload hx hb dX1_spoil_14 (lv_at hl 0 rfl) ?_
  exact pa_iretM hx hb hr hlk rfl hP hS dX1_spoil_16
set_option maxHeartbeats 4000000 in
theorem r_spoil_2 (l : Launch) {D : va_G} {a : Nat → Nat} {cI cZ : ClassId} {rl st : Nat → Nat} {rc : Nat} {lo : Nat → Nat} {b : Nat} {pl bt : Int32} (hN : pa_N 4 a) (hb1 : b < 6) (h : pl < 0 ∨ nI 8 ≤ pl) : Met l yX1_spoil (ws_ yX1_spoil cX1_spoil 5 (some .int)) (pa_rm 1 23) (PcX D clA [(cI, .int), (cZ, .boolean)] [.ref (a 0), .int (nI b), .int pl, .int bt] (WM a cI cZ rl st rc lo)) (QcXi (-2) D clA (WM a cI cZ rl st rc lo) (pa_A 4 a)) 0 0 (pa_A 4 a) := by
  refine pa_enter (by decide) (Nat.le_of_ble_eq_true rfl) (fun p e s m below meth c ls hx hb hr hlk hml hown hin hts hP hK hl => ?_)
  have hown : s.vm.findClass RX1 = some m.cls := hown
  have hl : lv_has ls 5 [(0, .ref (a 0)), (1, .int (nI b)), (2, .int pl), (3, .int bt)] := hl
  have hS : va_S (pa_A 4 a) s.heap s.heap [] := va_S.rf
  refine lv_aload_n hx hb dX1_spoil_0 rfl (lv_at hl 0 rfl) ?_
  refine lv_iload_n hx hb dX1_spoil_1 rfl (lv_at hl 1 rfl) ?_
  refine lv_iload_n hx hb dX1_spoil_2 rfl (lv_at hl 2 rfl) ?_
  refine lv_iconst (v := nI 0) hx hb dX1_spoil_3 (by decide) ?_
  refine pa_callR (ci := 1) (n := 3) ⟨hx, hb, hml, hown, hts⟩ (r_refusal_2 l hb1 h) hK hP rfl rfl (lw_V q201 q203 qs15 q19 q204) rfl rfl (by decide +kernel) ⟨by decide, by decide⟩ rfl hl.1 rfl (Nat.le_of_ble_eq_true rfl) dX1_spoil_4 ⟨Nat.le_refl _, Nat.le_refl _⟩ ?_
  refine lv_istore (lv' := [(4, .int (-2)), (0, .ref (a 0)), (1, .int (nI b)), (2, .int pl), (3, .int bt)]) hx hb dX1_spoil_7 hl (by decide) rfl (fun ls hl => ?_)
  refine lv_iload hx hb dX1_spoil_9 (lv_at hl 0 rfl) ?_
  refine lv_if_ge (tgt := 17) hx hb dX1_spoil_11 (by decide) (fun hc9 => absurd hc9 (by decide)) (fun hc => ?_)
  refine lv_iload hx hb dX1_spoil_14 (lv_at hl 0 rfl) ?_
  exact pa_iretM hx hb hr hlk rfl hP hS dX1_spoil_16
set_option maxHeartbeats 4000000 in
theorem r_spoil_3 (l : Launch) {D : va_G} {a : Nat → Nat} {cI cZ : ClassId} {rl st : Nat → Nat} {rc : Nat} {lo : Nat → Nat} {b i : Nat} {bt : Int32} (hN : pa_N 4 a) (hst : ∀ j, st j < 3) (hb1 : b < 6) (hi1 : i < 8) (h : st b ≠ 0) : Met l yX1_spoil (ws_ yX1_spoil cX1_spoil 5 (some .int)) (pa_rm 1 23) (PcX D clA [(cI, .int), (cZ, .boolean)] [.ref (a 0), .int (nI b), .int (nI i), .int bt] (WM a cI cZ rl st rc lo)) (QcXi (-4) D clA (WM a cI cZ rl st rc lo) (pa_A 4 a)) 0 0 (pa_A 4 a) := by
  refine pa_enter (by decide) (Nat.le_of_ble_eq_true rfl) (fun p e s m below meth c ls hx hb hr hlk hml hown hin hts hP hK hl => ?_)
  have hown : s.vm.findClass RX1 = some m.cls := hown
  have hl : lv_has ls 5 [(0, .ref (a 0)), (1, .int (nI b)), (2, .int (nI i)), (3, .int bt)] := hl
  have hS : va_S (pa_A 4 a) s.heap s.heap [] := va_S.rf
  refine lv_aload_n hx hb dX1_spoil_0 rfl (lv_at hl 0 rfl) ?_
  refine lv_iload_n hx hb dX1_spoil_1 rfl (lv_at hl 1 rfl) ?_
  refine lv_iload_n hx hb dX1_spoil_2 rfl (lv_at hl 2 rfl) ?_
  refine lv_iconst (v := nI 0) hx hb dX1_spoil_3 (by decide) ?_
  refine pa_callR (ci := 1) (n := 3) ⟨hx, hb, hml, hown, hts⟩ (r_refusal_4 l hst hb1 hi1 (by decide) h) hK hP rfl rfl (lw_V q201 q203 qs15 q19 q204) rfl rfl (by decide +kernel) ⟨by decide, by decide⟩ rfl hl.1 rfl (Nat.le_of_ble_eq_true rfl) dX1_spoil_4 ⟨Nat.le_refl _, Nat.le_refl _⟩ ?_
  refine lv_istore (lv' := [(4, .int (-4)), (0, .ref (a 0)), (1, .int (nI b)), (2, .int (nI i)), (3, .int bt)]) hx hb dX1_spoil_7 hl (by decide) rfl (fun ls hl => ?_)
  refine lv_iload hx hb dX1_spoil_9 (lv_at hl 0 rfl) ?_
  refine lv_if_ge (tgt := 17) hx hb dX1_spoil_11 (by decide) (fun hc9 => absurd hc9 (by decide)) (fun hc => ?_)
  refine lv_iload hx hb dX1_spoil_14 (lv_at hl 0 rfl) ?_
  exact pa_iretM hx hb hr hlk rfl hP hS dX1_spoil_16
set_option maxHeartbeats 4000000 in
theorem r_spoil_4 (l : Launch) {D : va_G} {a : Nat → Nat} {cI cZ : ClassId} {rl st : Nat → Nat} {rc : Nat} {lo : Nat → Nat} {b i v : Nat} {bt : Int32} (hN : pa_N 4 a) (hst : ∀ j, st j < 3) (hb1 : b < 6) (hi1 : i < 8) (hv1 : v < 256) (hv : bt &&& nI 255 = nI v) (h : st b = 0) (hz : v = 0) : Met l yX1_spoil (ws_ yX1_spoil cX1_spoil 5 (some .int)) (pa_rm 1 23) (PcX D clA [(cI, .int), (cZ, .boolean)] [.ref (a 0), .int (nI b), .int (nI i), .int bt] (WM a cI cZ rl st rc lo)) (QcXi (nI 0) D clA (WM a cI cZ rl st rc lo) (pa_A 4 a)) 0 0 (pa_A 4 a) := by
  refine pa_enter (by decide) (Nat.le_of_ble_eq_true rfl) (fun p e s m below meth c ls hx hb hr hlk hml hown hin hts hP hK hl => ?_)
  have hown : s.vm.findClass RX1 = some m.cls := hown
  have hl : lv_has ls 5 [(0, .ref (a 0)), (1, .int (nI b)), (2, .int (nI i)), (3, .int bt)] := hl
  have hS : va_S (pa_A 4 a) s.heap s.heap [] := va_S.rf
  refine lv_aload_n hx hb dX1_spoil_0 rfl (lv_at hl 0 rfl) ?_
  refine lv_iload_n hx hb dX1_spoil_1 rfl (lv_at hl 1 rfl) ?_
  refine lv_iload_n hx hb dX1_spoil_2 rfl (lv_at hl 2 rfl) ?_
  refine lv_iconst (v := nI 0) hx hb dX1_spoil_3 (by decide) ?_
  refine pa_callR (ci := 1) (n := 3) ⟨hx, hb, hml, hown, hts⟩ (r_refusal_5 l hst hb1 hi1 (by decide) h) hK hP rfl rfl (lw_V q201 q203 qs15 q19 q204) rfl rfl (by decide +kernel) ⟨by decide, by decide⟩ rfl hl.1 rfl (Nat.le_of_ble_eq_true rfl) dX1_spoil_4 ⟨Nat.le_refl _, Nat.le_refl _⟩ ?_
  refine lv_istore (lv' := [(4, .int (nI 0)), (0, .ref (a 0)), (1, .int (nI b)), (2, .int (nI i)), (3, .int bt)]) hx hb dX1_spoil_7 hl (by decide) rfl (fun ls hl => ?_)
  refine lv_iload hx hb dX1_spoil_9 (lv_at hl 0 rfl) ?_
  refine na_if_ge (tgt := 17) hx hb dX1_spoil_11 (by decide) (by omega) ?_
  refine lv_iload_n hx hb dX1_spoil_17 rfl (lv_at hl 4 rfl) ?_
  refine lv_sipush (v := nI 255) hx hb dX1_spoil_18 (by decide) ?_
  refine lv_iand hx hb dX1_spoil_21 ?_
  refine pa_top (y := nI v) hv ?_
  refine na_if_eq (tgt := 32) hx hb dX1_spoil_22 (by decide) (by omega) (fun hc => ?_) (fun hc9 => absurd hc9 (by omega))
  refine lv_aload_n hx hb dX1_spoil_32 rfl (lv_at hl 1 rfl) ?_
  refine m_get hx hb hts hown hK hP rfl 1 (by decide) q185 rfl rfl dX1_spoil_33 ?_
  refine lv_iload_n hx hb dX1_spoil_36 rfl (lv_at hl 2 rfl) ?_
  refine ra_ld hx hb hK hP 2 0 rfl rfl (by omega) (by decide) dX1_spoil_37 ?_
  exact pa_iretM hx hb hr hlk (by rw [h]) hP hS dX1_spoil_38
set_option maxHeartbeats 4000000 in
theorem r_spoil_5 (l : Launch) {D : va_G} {a : Nat → Nat} {cI cZ : ClassId} {rl st : Nat → Nat} {rc : Nat} {lo : Nat → Nat} {b i v : Nat} {bt : Int32} (hN : pa_N 4 a) (hst : ∀ j, st j < 3) (hb1 : b < 6) (hi1 : i < 8) (hv1 : v < 256) (hv : bt &&& nI 255 = nI v) (h : st b = 0) (hz : v ≠ 0) : Met l yX1_spoil (ws_ yX1_spoil cX1_spoil 5 (some .int)) (pa_rm 1 23) (PcX D clA [(cI, .int), (cZ, .boolean)] [.ref (a 0), .int (nI b), .int (nI i), .int bt] (WM a cI cZ rl st rc lo)) (QcXi (nI 2) D clA (WM a cI cZ rl (pa_u st b 2) rc lo) (pa_A 4 a)) 0 0 (pa_A 4 a) := by
  refine pa_enter (by decide) (Nat.le_of_ble_eq_true rfl) (fun p e s m below meth c ls hx hb hr hlk hml hown hin hts hP hK hl => ?_)
  have hown : s.vm.findClass RX1 = some m.cls := hown
  have hl : lv_has ls 5 [(0, .ref (a 0)), (1, .int (nI b)), (2, .int (nI i)), (3, .int bt)] := hl
  have hS : va_S (pa_A 4 a) s.heap s.heap [] := va_S.rf
  refine lv_aload_n hx hb dX1_spoil_0 rfl (lv_at hl 0 rfl) ?_
  refine lv_iload_n hx hb dX1_spoil_1 rfl (lv_at hl 1 rfl) ?_
  refine lv_iload_n hx hb dX1_spoil_2 rfl (lv_at hl 2 rfl) ?_
  refine lv_iconst (v := nI 0) hx hb dX1_spoil_3 (by decide) ?_
  refine pa_callR (ci := 1) (n := 3) ⟨hx, hb, hml, hown, hts⟩ (r_refusal_5 l hst hb1 hi1 (by decide) h) hK hP rfl rfl (lw_V q201 q203 qs15 q19 q204) rfl rfl (by decide +kernel) ⟨by decide, by decide⟩ rfl hl.1 rfl (Nat.le_of_ble_eq_true rfl) dX1_spoil_4 ⟨Nat.le_refl _, Nat.le_refl _⟩ ?_
  refine lv_istore (lv' := [(4, .int (nI 0)), (0, .ref (a 0)), (1, .int (nI b)), (2, .int (nI i)), (3, .int bt)]) hx hb dX1_spoil_7 hl (by decide) rfl (fun ls hl => ?_)
  refine lv_iload hx hb dX1_spoil_9 (lv_at hl 0 rfl) ?_
  refine na_if_ge (tgt := 17) hx hb dX1_spoil_11 (by decide) (by omega) ?_
  refine lv_iload_n hx hb dX1_spoil_17 rfl (lv_at hl 4 rfl) ?_
  refine lv_sipush (v := nI 255) hx hb dX1_spoil_18 (by decide) ?_
  refine lv_iand hx hb dX1_spoil_21 ?_
  refine pa_top (y := nI v) hv ?_
  refine na_if_eq (tgt := 32) hx hb dX1_spoil_22 (by decide) (by omega) (fun hc9 => absurd hc9 (by omega)) (fun hc => ?_)
  refine lv_aload_n hx hb dX1_spoil_25 rfl (lv_at hl 1 rfl) ?_
  refine m_get hx hb hts hown hK hP rfl 1 (by decide) q185 rfl rfl dX1_spoil_26 ?_
  refine lv_iload_n hx hb dX1_spoil_29 rfl (lv_at hl 2 rfl) ?_
  refine lv_iconst (v := nI 2) hx hb dX1_spoil_30 (by decide) ?_
  refine ra_st (ws' := WM a cI cZ rl (pa_u st b 2) rc lo) hx hb hK hP (WM_D hN) hS 2 0 rfl rfl (by omega) (by decide) dX1_spoil_31 rfl (fun H locs hP hS => ?_)
  refine lv_aload_n hx hb dX1_spoil_32 rfl (lv_at hl 1 rfl) ?_
  refine m_get hx hb hts hown hK hP rfl 1 (by decide) q185 rfl rfl dX1_spoil_33 ?_
  refine lv_iload_n hx hb dX1_spoil_36 rfl (lv_at hl 2 rfl) ?_
  refine ra_ld hx hb hK hP 2 0 rfl rfl (by omega) (by decide) dX1_spoil_37 ?_
  exact pa_iretM hx hb hr hlk (by rw [pa_us]) hP hS dX1_spoil_38
set_option maxHeartbeats 4000000 in
theorem r_repair_1 (l : Launch) {D : va_G} {a : Nat → Nat} {cI cZ : ClassId} {rl st : Nat → Nat} {rc : Nat} {lo : Nat → Nat} (hN : pa_N 4 a) (hst : ∀ j, st j < 3) (hlo : ∀ j, lo j < 2) (hrc : rc ≤ 4) (h : pf_sp lo rc < pf_ng st 6) : Met l yX1_repair (ws_ yX1_repair cX1_repair 3 (some .int)) (pa_rm 1 22) (PcX D clA [(cI, .int), (cZ, .boolean)] [.ref (a 0)] (WM a cI cZ rl st rc lo)) (QcXi (-6) D clA (WM a cI cZ rl st rc lo) (pa_A 4 a)) 0 0 (pa_A 4 a) := by
  refine pa_enter (by decide) (Nat.le_of_ble_eq_true rfl) (fun p e s m below meth c ls hx hb hr hlk hml hown hin hts hP hK hl => ?_)
  have hown : s.vm.findClass RX1 = some m.cls := hown
  have hl : lv_has ls 3 [(0, .ref (a 0))] := hl
  have hS : va_S (pa_A 4 a) s.heap s.heap [] := va_S.rf
  have h1 := pf_ng_le st 6
  have h2 := pf_sp_le lo rc
  refine lv_aload_n hx hb dX1_repair_0 rfl (lv_at hl 0 rfl) ?_
  refine pa_callR (ci := 1) (n := 0) ⟨hx, hb, hml, hown, hts⟩ (r_notGood l hst) hK hP rfl rfl (lw_V q209 q211 qs16 q19 q212) rfl rfl (by decide +kernel) ⟨by decide, by decide⟩ rfl hl.1 rfl (Nat.le_of_ble_eq_true rfl) dX1_repair_1 ⟨Nat.le_refl _, Nat.le_refl _⟩ ?_
  refine lv_istore_n (lv' := [(1, .int (nI (pf_ng st 6))), (0, .ref (a 0))]) hx hb dX1_repair_4 rfl hl (by decide) rfl (fun ls hl => ?_)
  refine lv_iload_n hx hb dX1_repair_5 rfl (lv_at hl 0 rfl) ?_
  refine lv_aload_n hx hb dX1_repair_6 rfl (lv_at hl 1 rfl) ?_
  refine pa_callR (ci := 1) (n := 0) ⟨hx, hb, hml, hown, hts⟩ (r_spare l hlo hrc) hK hP rfl rfl (lw_V q229 q230 q231 q19 q232) rfl rfl (by decide +kernel) ⟨by decide, by decide⟩ rfl hl.1 rfl (Nat.le_of_ble_eq_true rfl) dX1_repair_7 ⟨Nat.le_refl _, Nat.le_refl _⟩ ?_
  refine na_icmp_le (tgt := 16) hx hb dX1_repair_10 (by decide) (by omega) (by omega) (fun hc9 => absurd hc9 (by omega)) (fun hc => ?_)
  refine lv_bipush (v := (-6)) hx hb dX1_repair_13 (by decide) ?_
  exact pa_iretM hx hb hr hlk rfl hP hS dX1_repair_15
set_option maxHeartbeats 4000000 in
theorem r_repair_2 (l : Launch) {D : va_G} {a : Nat → Nat} {cI cZ : ClassId} {rl st : Nat → Nat} {rc : Nat} {lo : Nat → Nat} (hN : pa_N 4 a) (hst : ∀ j, st j < 3) (hlo : ∀ j, lo j < 2) (hrc : rc ≤ 4) (h : pf_ng st 6 ≤ pf_sp lo rc) : Met l yX1_repair (ws_ yX1_repair cX1_repair 3 (some .int)) (pa_rm 1 22) (PcX D clA [(cI, .int), (cZ, .boolean)] [.ref (a 0)] (WM a cI cZ rl st rc lo)) (QcXi (nI (pf_ng st 6)) D clA (WM a cI cZ rl (pf_z st 6) rc (pf_z lo 4)) (pa_A 4 a)) 0 0 (pa_A 4 a) := by
  refine pa_enter (by decide) (Nat.le_of_ble_eq_true rfl) (fun p e s m below meth c ls hx hb hr hlk hml hown hin hts hP hK hl => ?_)
  have hown : s.vm.findClass RX1 = some m.cls := hown
  have hl : lv_has ls 3 [(0, .ref (a 0))] := hl
  have hS : va_S (pa_A 4 a) s.heap s.heap [] := va_S.rf
  have h1 := pf_ng_le st 6
  have h2 := pf_sp_le lo rc
  refine lv_aload_n hx hb dX1_repair_0 rfl (lv_at hl 0 rfl) ?_
  refine pa_callR (ci := 1) (n := 0) ⟨hx, hb, hml, hown, hts⟩ (r_notGood l hst) hK hP rfl rfl (lw_V q209 q211 qs16 q19 q212) rfl rfl (by decide +kernel) ⟨by decide, by decide⟩ rfl hl.1 rfl (Nat.le_of_ble_eq_true rfl) dX1_repair_1 ⟨Nat.le_refl _, Nat.le_refl _⟩ ?_
  refine lv_istore_n (lv' := [(1, .int (nI (pf_ng st 6))), (0, .ref (a 0))]) hx hb dX1_repair_4 rfl hl (by decide) rfl (fun ls hl => ?_)
  refine lv_iload_n hx hb dX1_repair_5 rfl (lv_at hl 0 rfl) ?_
  refine lv_aload_n hx hb dX1_repair_6 rfl (lv_at hl 1 rfl) ?_
  refine pa_callR (ci := 1) (n := 0) ⟨hx, hb, hml, hown, hts⟩ (r_spare l hlo hrc) hK hP rfl rfl (lw_V q229 q230 q231 q19 q232) rfl rfl (by decide +kernel) ⟨by decide, by decide⟩ rfl hl.1 rfl (Nat.le_of_ble_eq_true rfl) dX1_repair_7 ⟨Nat.le_refl _, Nat.le_refl _⟩ ?_
  refine na_icmp_le (tgt := 16) hx hb dX1_repair_10 (by decide) (by omega) (by omega) (fun hc => ?_) (fun hc9 => absurd hc9 (by omega))
  refine lv_iconst (v := nI 0) hx hb dX1_repair_16 (by decide) ?_
  refine lv_istore_n (lv' := [(2, .int (nI 0)), (1, .int (nI (pf_ng st 6))), (0, .ref (a 0))]) hx hb dX1_repair_17 rfl hl (by decide) rfl (fun ls hl => ?_)
  refine pa_lpm (nL := 3) (fun i (x : (Nat → Nat)) => x = pf_z st i) (fun i (x : (Nat → Nat)) => [(0, .ref (a 0)), (1, .int (nI (pf_ng st 6))), (2, .int (nI i))]) (fun i (x : (Nat → Nat)) => WM a cI cZ rl x rc lo) 0 6 (by omega) (st) rfl (lv_sub hl [2, 1, 0] rfl) hP hS (fun i f H locs ls hge hhi hI hl hP hS ih => ?_) (fun f H locs ls hI hl hP hS => ?_)
  · skip
    have hI : f = pf_z st i := hI
    have hl : lv_has ls 3 [(0, .ref (a 0)), (1, .int (nI (pf_ng st 6))), (2, .int (nI i))] := hl
    have hP : va_P D clA (WM a cI cZ rl f rc lo) H := hP
    refine lv_iload_n hx hb dX1_repair_18 rfl (lv_at hl 2 rfl) ?_
    refine lv_bipush (v := nI 6) hx hb dX1_repair_19 (by decide) ?_
    refine na_icmp_ge (tgt := 37) hx hb dX1_repair_21 (by decide) (by omega) (by omega) (fun hc9 => absurd hc9 (by omega)) (fun hc => ?_)
    refine lv_aload_n hx hb dX1_repair_24 rfl (lv_at hl 0 rfl) ?_
    refine m_get hx hb hts hown hK hP rfl 1 (by decide) q185 rfl rfl dX1_repair_25 ?_
    refine lv_iload_n hx hb dX1_repair_28 rfl (lv_at hl 2 rfl) ?_
    refine lv_iconst (v := nI 0) hx hb dX1_repair_29 (by decide) ?_
    refine ra_st (ws' := WM a cI cZ rl (pa_u f i 0) rc lo) hx hb hK hP (WM_D hN) hS 2 0 rfl rfl (by omega) (by decide) dX1_repair_30 rfl (fun H locs hP hS => ?_)
    refine na_iinc (lv' := [(2, .int (nI (i + 1))), (0, .ref (a 0)), (1, .int (nI (pf_ng st 6)))]) hx hb dX1_repair_31 hl (k := 2) rfl (by decide) rfl (fun ls hl => ?_)
    refine lv_goto (tgt := 18) hx hb dX1_repair_34 (by decide) ?_
    exact ih (pa_u f i 0) _ _ _ (by rw [hI]; rfl) (lv_sub hl [1, 2, 0] rfl) hP hS
  · skip
    have hI : f = pf_z st 6 := hI
    have hl : lv_has ls 3 [(0, .ref (a 0)), (1, .int (nI (pf_ng st 6))), (2, .int (nI 6))] := hl
    have hP : va_P D clA (WM a cI cZ rl f rc lo) H := hP
    refine lv_iload_n hx hb dX1_repair_18 rfl (lv_at hl 2 rfl) ?_
    refine lv_bipush (v := nI 6) hx hb dX1_repair_19 (by decide) ?_
    refine na_icmp_ge (tgt := 37) hx hb dX1_repair_21 (by decide) (by omega) (by omega) (fun hc => ?_) (fun hc9 => absurd hc9 (by omega))
    have hP : va_P D clA (WM a cI cZ rl (pf_z st 6) rc lo) _ := (by rw [hI] at hP; exact hP)
    refine lv_iconst (v := nI 0) hx hb dX1_repair_37 (by decide) ?_
    refine lv_istore_n (lv' := [(2, .int (nI 0)), (0, .ref (a 0)), (1, .int (nI (pf_ng st 6)))]) hx hb dX1_repair_38 rfl hl (by decide) rfl (fun ls hl => ?_)
    refine pa_lpm (nL := 3) (fun i (x : (Nat → Nat)) => x = pf_z lo i) (fun i (x : (Nat → Nat)) => [(0, .ref (a 0)), (1, .int (nI (pf_ng st 6))), (2, .int (nI i))]) (fun i (x : (Nat → Nat)) => WM a cI cZ rl (pf_z st 6) rc x) 0 4 (by omega) (lo) rfl (lv_sub hl [1, 2, 0] rfl) hP hS (fun i f2 H locs ls hge2 hhi2 hI2 hl hP hS ih2 => ?_) (fun f2 H locs ls hI2 hl hP hS => ?_)
    · skip
      have hI2 : f2 = pf_z lo i := hI2
      have hl : lv_has ls 3 [(0, .ref (a 0)), (1, .int (nI (pf_ng st 6))), (2, .int (nI i))] := hl
      have hP : va_P D clA (WM a cI cZ rl (pf_z st 6) rc f2) H := hP
      refine lv_iload_n hx hb dX1_repair_39 rfl (lv_at hl 2 rfl) ?_
      refine lv_iconst (v := nI 4) hx hb dX1_repair_40 (by decide) ?_
      refine na_icmp_ge (tgt := 57) hx hb dX1_repair_41 (by decide) (by omega) (by omega) (fun hc9 => absurd hc9 (by omega)) (fun hc => ?_)
      refine lv_aload_n hx hb dX1_repair_44 rfl (lv_at hl 0 rfl) ?_
      refine m_get hx hb hts hown hK hP rfl 3 (by decide) q187 rfl rfl dX1_repair_45 ?_
      refine lv_iload_n hx hb dX1_repair_48 rfl (lv_at hl 2 rfl) ?_
      refine lv_iconst (v := nI 0) hx hb dX1_repair_49 (by decide) ?_
      refine rz_st (ws' := WM a cI cZ rl (pf_z st 6) rc (pa_u f2 i 0)) hx hb hK hP (WM_D hN) hS 3 1 rfl rfl (by omega) (by decide) (by decide) dX1_repair_50 rfl (fun H locs hP hS => ?_)
      refine na_iinc (lv' := [(2, .int (nI (i + 1))), (0, .ref (a 0)), (1, .int (nI (pf_ng st 6)))]) hx hb dX1_repair_51 hl (k := 2) rfl (by decide) rfl (fun ls hl => ?_)
      refine lv_goto (tgt := 39) hx hb dX1_repair_54 (by decide) ?_
      exact ih2 (pa_u f2 i 0) _ _ _ (by rw [hI2]; rfl) (lv_sub hl [1, 2, 0] rfl) hP hS
    · skip
      have hI2 : f2 = pf_z lo 4 := hI2
      have hl : lv_has ls 3 [(0, .ref (a 0)), (1, .int (nI (pf_ng st 6))), (2, .int (nI 4))] := hl
      have hP : va_P D clA (WM a cI cZ rl (pf_z st 6) rc f2) H := hP
      refine lv_iload_n hx hb dX1_repair_39 rfl (lv_at hl 2 rfl) ?_
      refine lv_iconst (v := nI 4) hx hb dX1_repair_40 (by decide) ?_
      refine na_icmp_ge (tgt := 57) hx hb dX1_repair_41 (by decide) (by omega) (by omega) (fun hc => ?_) (fun hc9 => absurd hc9 (by omega))
      refine lv_iload_n hx hb dX1_repair_57 rfl (lv_at hl 1 rfl) ?_
      exact pa_iretM hx hb hr hlk rfl (by rw [hI2] at hP; exact hP) hS dX1_repair_58
set_option maxHeartbeats 4000000 in
theorem r_giveUp (l : Launch) {D : va_G} {a : Nat → Nat} {cI cZ : ClassId} {rl st : Nat → Nat} {rc : Nat} {lo : Nat → Nat} (hN : pa_N 4 a) (hst : ∀ j, st j < 3) : Met l yX1_giveUp (ws_ yX1_giveUp cX1_giveUp 3 (some .int)) (pa_rm 1 22) (PcX D clA [(cI, .int), (cZ, .boolean)] [.ref (a 0)] (WM a cI cZ rl st rc lo)) (QcXi (nI (pf_ng st 6)) D clA (WM a cI cZ (pf_zr st rl 48) (pf_z st 6) 0 lo) (pa_A 4 a)) 0 0 (pa_A 4 a) := by
  refine pa_enter (by decide) (Nat.le_of_ble_eq_true rfl) (fun p e s m below meth c ls hx hb hr hlk hml hown hin hts hP hK hl => ?_)
  have hown : s.vm.findClass RX1 = some m.cls := hown
  have hl : lv_has ls 3 [(0, .ref (a 0))] := hl
  have hS : va_S (pa_A 4 a) s.heap s.heap [] := va_S.rf
  refine lv_aload_n hx hb dX1_giveUp_0 rfl (lv_at hl 0 rfl) ?_
  refine pa_callR (ci := 1) (n := 0) ⟨hx, hb, hml, hown, hts⟩ (r_notGood l hst) hK hP rfl rfl (lw_V q209 q211 qs16 q19 q212) rfl rfl (by decide +kernel) ⟨by decide, by decide⟩ rfl hl.1 rfl (Nat.le_of_ble_eq_true rfl) dX1_giveUp_1 ⟨Nat.le_refl _, Nat.le_refl _⟩ ?_
  refine lv_istore_n (lv' := [(1, .int (nI (pf_ng st 6))), (0, .ref (a 0))]) hx hb dX1_giveUp_4 rfl hl (by decide) rfl (fun ls hl => ?_)
  refine lv_iconst (v := nI 0) hx hb dX1_giveUp_5 (by decide) ?_
  refine lv_istore_n (lv' := [(2, .int (nI 0)), (1, .int (nI (pf_ng st 6))), (0, .ref (a 0))]) hx hb dX1_giveUp_6 rfl hl (by decide) rfl (fun ls hl => ?_)
  refine pa_lpm (nL := 3) (fun i (x : (Nat → Nat)) => x = pf_zr st rl i) (fun i (x : (Nat → Nat)) => [(0, .ref (a 0)), (1, .int (nI (pf_ng st 6))), (2, .int (nI i))]) (fun i (x : (Nat → Nat)) => WM a cI cZ x st rc lo) 0 48 (by omega) (rl) rfl (lv_sub hl [2, 1, 0] rfl) hP hS (fun i f H locs ls hge hhi hI hl hP hS ih => ?_) (fun f H locs ls hI hl hP hS => ?_)
  · skip
    have hI : f = pf_zr st rl i := hI
    have hl : lv_has ls 3 [(0, .ref (a 0)), (1, .int (nI (pf_ng st 6))), (2, .int (nI i))] := hl
    have hP : va_P D clA (WM a cI cZ f st rc lo) H := hP
    have hs := hst (i / 8)
    refine lv_iload_n hx hb dX1_giveUp_7 rfl (lv_at hl 2 rfl) ?_
    refine lv_bipush (v := nI 48) hx hb dX1_giveUp_8 (by decide) ?_
    refine na_icmp_ge (tgt := 38) hx hb dX1_giveUp_10 (by decide) (by omega) (by omega) (fun hc9 => absurd hc9 (by omega)) (fun hc => ?_)
    refine lv_aload_n hx hb dX1_giveUp_13 rfl (lv_at hl 0 rfl) ?_
    refine m_get hx hb hts hown hK hP rfl 1 (by decide) q185 rfl rfl dX1_giveUp_14 ?_
    refine lv_iload_n hx hb dX1_giveUp_17 rfl (lv_at hl 2 rfl) ?_
    refine lv_bipush (v := nI 8) hx hb dX1_giveUp_18 (by decide) ?_
    refine na_div hx hb dX1_giveUp_20 (by omega) (by decide) (by decide) ?_
    refine ra_ld hx hb hK hP 2 0 rfl rfl (by omega) (by decide) dX1_giveUp_21 ?_
    refine na_if_eq (tgt := 32) hx hb dX1_giveUp_22 (by decide) (by omega) (fun hc => ?_) (fun hc => ?_)
    · skip
      refine na_iinc (lv' := [(2, .int (nI (i + 1))), (0, .ref (a 0)), (1, .int (nI (pf_ng st 6)))]) hx hb dX1_giveUp_32 hl (k := 2) rfl (by decide) rfl (fun ls hl => ?_)
      refine lv_goto (tgt := 7) hx hb dX1_giveUp_35 (by decide) ?_
      exact ih (f) _ _ _ (by rw [hI]; exact (if_pos hc).symm) (lv_sub hl [1, 2, 0] rfl) hP hS
    · skip
      refine lv_aload_n hx hb dX1_giveUp_25 rfl (lv_at hl 0 rfl) ?_
      refine m_get hx hb hts hown hK hP rfl 0 (by decide) q184 rfl rfl dX1_giveUp_26 ?_
      refine lv_iload_n hx hb dX1_giveUp_29 rfl (lv_at hl 2 rfl) ?_
      refine lv_iconst (v := nI 0) hx hb dX1_giveUp_30 (by decide) ?_
      refine ra_st (ws' := WM a cI cZ (pa_u f i 0) st rc lo) hx hb hK hP (WM_D hN) hS 1 0 rfl rfl (by omega) (by decide) dX1_giveUp_31 rfl (fun H locs hP hS => ?_)
      refine na_iinc (lv' := [(2, .int (nI (i + 1))), (0, .ref (a 0)), (1, .int (nI (pf_ng st 6)))]) hx hb dX1_giveUp_32 hl (k := 2) rfl (by decide) rfl (fun ls hl => ?_)
      refine lv_goto (tgt := 7) hx hb dX1_giveUp_35 (by decide) ?_
      exact ih (pa_u f i 0) _ _ _ (by rw [hI]; exact (if_neg hc).symm) (lv_sub hl [1, 2, 0] rfl) hP hS
  · skip
    have hI : f = pf_zr st rl 48 := hI
    have hl : lv_has ls 3 [(0, .ref (a 0)), (1, .int (nI (pf_ng st 6))), (2, .int (nI 48))] := hl
    have hP : va_P D clA (WM a cI cZ f st rc lo) H := hP
    refine lv_iload_n hx hb dX1_giveUp_7 rfl (lv_at hl 2 rfl) ?_
    refine lv_bipush (v := nI 48) hx hb dX1_giveUp_8 (by decide) ?_
    refine na_icmp_ge (tgt := 38) hx hb dX1_giveUp_10 (by decide) (by omega) (by omega) (fun hc => ?_) (fun hc9 => absurd hc9 (by omega))
    have hP : va_P D clA (WM a cI cZ (pf_zr st rl 48) st rc lo) _ := (by rw [hI] at hP; exact hP)
    refine lv_iconst (v := nI 0) hx hb dX1_giveUp_38 (by decide) ?_
    refine lv_istore_n (lv' := [(2, .int (nI 0)), (0, .ref (a 0)), (1, .int (nI (pf_ng st 6)))]) hx hb dX1_giveUp_39 rfl hl (by decide) rfl (fun ls hl => ?_)
    refine pa_lpm (nL := 3) (fun i (x : (Nat → Nat)) => x = pf_z st i) (fun i (x : (Nat → Nat)) => [(0, .ref (a 0)), (1, .int (nI (pf_ng st 6))), (2, .int (nI i))]) (fun i (x : (Nat → Nat)) => WM a cI cZ (pf_zr st rl 48) x rc lo) 0 6 (by omega) (st) rfl (lv_sub hl [1, 2, 0] rfl) hP hS (fun i f2 H locs ls hge2 hhi2 hI2 hl hP hS ih2 => ?_) (fun f2 H locs ls hI2 hl hP hS => ?_)
    · skip
      have hI2 : f2 = pf_z st i := hI2
      have hl : lv_has ls 3 [(0, .ref (a 0)), (1, .int (nI (pf_ng st 6))), (2, .int (nI i))] := hl
      have hP : va_P D clA (WM a cI cZ (pf_zr st rl 48) f2 rc lo) H := hP
      refine lv_iload_n hx hb dX1_giveUp_40 rfl (lv_at hl 2 rfl) ?_
      refine lv_bipush (v := nI 6) hx hb dX1_giveUp_41 (by decide) ?_
      refine na_icmp_ge (tgt := 59) hx hb dX1_giveUp_43 (by decide) (by omega) (by omega) (fun hc9 => absurd hc9 (by omega)) (fun hc => ?_)
      refine lv_aload_n hx hb dX1_giveUp_46 rfl (lv_at hl 0 rfl) ?_
      refine m_get hx hb hts hown hK hP rfl 1 (by decide) q185 rfl rfl dX1_giveUp_47 ?_
      refine lv_iload_n hx hb dX1_giveUp_50 rfl (lv_at hl 2 rfl) ?_
      refine lv_iconst (v := nI 0) hx hb dX1_giveUp_51 (by decide) ?_
      refine ra_st (ws' := WM a cI cZ (pf_zr st rl 48) (pa_u f2 i 0) rc lo) hx hb hK hP (WM_D hN) hS 2 0 rfl rfl (by omega) (by decide) dX1_giveUp_52 rfl (fun H locs hP hS => ?_)
      refine na_iinc (lv' := [(2, .int (nI (i + 1))), (0, .ref (a 0)), (1, .int (nI (pf_ng st 6)))]) hx hb dX1_giveUp_53 hl (k := 2) rfl (by decide) rfl (fun ls hl => ?_)
      refine lv_goto (tgt := 40) hx hb dX1_giveUp_56 (by decide) ?_
      exact ih2 (pa_u f2 i 0) _ _ _ (by rw [hI2]; rfl) (lv_sub hl [1, 2, 0] rfl) hP hS
    · skip
      have hI2 : f2 = pf_z st 6 := hI2
      have hl : lv_has ls 3 [(0, .ref (a 0)), (1, .int (nI (pf_ng st 6))), (2, .int (nI 6))] := hl
      have hP : va_P D clA (WM a cI cZ (pf_zr st rl 48) f2 rc lo) H := hP
      refine lv_iload_n hx hb dX1_giveUp_40 rfl (lv_at hl 2 rfl) ?_
      refine lv_bipush (v := nI 6) hx hb dX1_giveUp_41 (by decide) ?_
      refine na_icmp_ge (tgt := 59) hx hb dX1_giveUp_43 (by decide) (by omega) (by omega) (fun hc => ?_) (fun hc9 => absurd hc9 (by omega))
      refine lv_aload_n hx hb dX1_giveUp_59 rfl (lv_at hl 0 rfl) ?_
      refine lv_iconst (v := nI 0) hx hb dX1_giveUp_60 (by decide) ?_
      refine m_put (ws' := WM a cI cZ (pf_zr st rl 48) f2 0 lo) hx hb hts hown hK hP (WM_D hN) hS rfl 2 (by decide) q186 rfl rfl (by decide +kernel) (Nat.le_of_ble_eq_true rfl) dX1_giveUp_61 rfl (fun H locs hP hS => ?_)
      refine lv_iload_n hx hb dX1_giveUp_64 rfl (lv_at hl 1 rfl) ?_
      exact pa_iretM hx hb hr hlk rfl (by rw [hI2] at hP; exact hP) hS dX1_giveUp_65
set_option maxHeartbeats 4000000 in
theorem r_read_1 (l : Launch) {D : va_G} {a : Nat → Nat} {cI cZ : ClassId} {rl st : Nat → Nat} {rc : Nat} {lo : Nat → Nat}  {bk pl : Int32} (h : bk < 0 ∨ nI 6 ≤ bk) : Met l yX1_read (ws_ yX1_read cX1_read 4 (some .int)) (pa_rm 1 23) (PcX D clA [(cI, .int), (cZ, .boolean)] [.ref (a 0), .int bk, .int pl] (WM a cI cZ rl st rc lo)) (QcRead (-1)) 0 0 (fun _ => False) := by
  refine pa_enter (by decide) (Nat.le_of_ble_eq_true rfl) (fun p e s m below meth c ls hx hb hr hlk hml hown hin hts hP hK hl => ?_)
  have hown : s.vm.findClass RX1 = some m.cls := hown
  have hl : lv_has ls 4 [(0, .ref (a 0)), (1, .int bk), (2, .int pl)] := hl
  refine lv_aload_n hx hb dX1_read_0 rfl (lv_at hl 0 rfl) ?_
  refine lv_iload_n hx hb dX1_read_1 rfl (lv_at hl 1 rfl) ?_
  refine lv_iload_n hx hb dX1_read_2 rfl (lv_at hl 2 rfl) ?_
  refine lv_iconst (v := nI 0) hx hb dX1_read_3 (by decide) ?_
  refine pa_callR (ci := 1) (n := 3) ⟨hx, hb, hml, hown, hts⟩ (r_refusal_1 l h) hK hP rfl rfl (lw_V q201 q203 qs15 q19 q204) rfl rfl (by decide +kernel) ⟨by decide, by decide⟩ rfl hl.1 rfl (Nat.le_of_ble_eq_true rfl) dX1_read_4 ⟨Nat.le_refl _, Nat.le_refl _⟩ ?_
  refine lv_istore_n (lv' := [(3, .int (-1)), (0, .ref (a 0)), (1, .int bk), (2, .int pl)]) hx hb dX1_read_7 rfl hl (by decide) rfl (fun ls hl => ?_)
  refine lv_iload_n hx hb dX1_read_8 rfl (lv_at hl 0 rfl) ?_
  refine lv_if_ge (tgt := 16) hx hb dX1_read_9 (by decide) (fun hc9 => absurd hc9 (by decide)) (fun hc => ?_)
  refine lv_iload_n hx hb dX1_read_12 rfl (lv_at hl 0 rfl) ?_
  refine lv_goto (tgt := 27) hx hb dX1_read_13 (by decide) ?_
  exact pa_iretR hx hb hr hlk rfl dX1_read_27
set_option maxHeartbeats 4000000 in
theorem r_read_2 (l : Launch) {D : va_G} {a : Nat → Nat} {cI cZ : ClassId} {rl st : Nat → Nat} {rc : Nat} {lo : Nat → Nat} {b : Nat} {pl : Int32} (hb1 : b < 6) (h : pl < 0 ∨ nI 8 ≤ pl) : Met l yX1_read (ws_ yX1_read cX1_read 4 (some .int)) (pa_rm 1 23) (PcX D clA [(cI, .int), (cZ, .boolean)] [.ref (a 0), .int (nI b), .int pl] (WM a cI cZ rl st rc lo)) (QcRead (-2)) 0 0 (fun _ => False) := by
  refine pa_enter (by decide) (Nat.le_of_ble_eq_true rfl) (fun p e s m below meth c ls hx hb hr hlk hml hown hin hts hP hK hl => ?_)
  have hown : s.vm.findClass RX1 = some m.cls := hown
  have hl : lv_has ls 4 [(0, .ref (a 0)), (1, .int (nI b)), (2, .int pl)] := hl
  refine lv_aload_n hx hb dX1_read_0 rfl (lv_at hl 0 rfl) ?_
  refine lv_iload_n hx hb dX1_read_1 rfl (lv_at hl 1 rfl) ?_
  refine lv_iload_n hx hb dX1_read_2 rfl (lv_at hl 2 rfl) ?_
  refine lv_iconst (v := nI 0) hx hb dX1_read_3 (by decide) ?_
  refine pa_callR (ci := 1) (n := 3) ⟨hx, hb, hml, hown, hts⟩ (r_refusal_2 l hb1 h) hK hP rfl rfl (lw_V q201 q203 qs15 q19 q204) rfl rfl (by decide +kernel) ⟨by decide, by decide⟩ rfl hl.1 rfl (Nat.le_of_ble_eq_true rfl) dX1_read_4 ⟨Nat.le_refl _, Nat.le_refl _⟩ ?_
  refine lv_istore_n (lv' := [(3, .int (-2)), (0, .ref (a 0)), (1, .int (nI b)), (2, .int pl)]) hx hb dX1_read_7 rfl hl (by decide) rfl (fun ls hl => ?_)
  refine lv_iload_n hx hb dX1_read_8 rfl (lv_at hl 0 rfl) ?_
  refine lv_if_ge (tgt := 16) hx hb dX1_read_9 (by decide) (fun hc9 => absurd hc9 (by decide)) (fun hc => ?_)
  refine lv_iload_n hx hb dX1_read_12 rfl (lv_at hl 0 rfl) ?_
  refine lv_goto (tgt := 27) hx hb dX1_read_13 (by decide) ?_
  exact pa_iretR hx hb hr hlk rfl dX1_read_27
set_option maxHeartbeats 4000000 in
theorem r_read_3 (l : Launch) {D : va_G} {a : Nat → Nat} {cI cZ : ClassId} {rl st : Nat → Nat} {rc : Nat} {lo : Nat → Nat} {b i : Nat}  (hst : ∀ j, st j < 3) (hb1 : b < 6) (hi1 : i < 8) (h : st b ≠ 0) : Met l yX1_read (ws_ yX1_read cX1_read 4 (some .int)) (pa_rm 1 23) (PcX D clA [(cI, .int), (cZ, .boolean)] [.ref (a 0), .int (nI b), .int (nI i)] (WM a cI cZ rl st rc lo)) (QcRead (-4)) 0 0 (fun _ => False) := by
  refine pa_enter (by decide) (Nat.le_of_ble_eq_true rfl) (fun p e s m below meth c ls hx hb hr hlk hml hown hin hts hP hK hl => ?_)
  have hown : s.vm.findClass RX1 = some m.cls := hown
  have hl : lv_has ls 4 [(0, .ref (a 0)), (1, .int (nI b)), (2, .int (nI i))] := hl
  refine lv_aload_n hx hb dX1_read_0 rfl (lv_at hl 0 rfl) ?_
  refine lv_iload_n hx hb dX1_read_1 rfl (lv_at hl 1 rfl) ?_
  refine lv_iload_n hx hb dX1_read_2 rfl (lv_at hl 2 rfl) ?_
  refine lv_iconst (v := nI 0) hx hb dX1_read_3 (by decide) ?_
  refine pa_callR (ci := 1) (n := 3) ⟨hx, hb, hml, hown, hts⟩ (r_refusal_4 l hst hb1 hi1 (by decide) h) hK hP rfl rfl (lw_V q201 q203 qs15 q19 q204) rfl rfl (by decide +kernel) ⟨by decide, by decide⟩ rfl hl.1 rfl (Nat.le_of_ble_eq_true rfl) dX1_read_4 ⟨Nat.le_refl _, Nat.le_refl _⟩ ?_
  refine lv_istore_n (lv' := [(3, .int (-4)), (0, .ref (a 0)), (1, .int (nI b)), (2, .int (nI i))]) hx hb dX1_read_7 rfl hl (by decide) rfl (fun ls hl => ?_)
  refine lv_iload_n hx hb dX1_read_8 rfl (lv_at hl 0 rfl) ?_
  refine lv_if_ge (tgt := 16) hx hb dX1_read_9 (by decide) (fun hc9 => absurd hc9 (by decide)) (fun hc => ?_)
  refine lv_iload_n hx hb dX1_read_12 rfl (lv_at hl 0 rfl) ?_
  refine lv_goto (tgt := 27) hx hb dX1_read_13 (by decide) ?_
  exact pa_iretR hx hb hr hlk rfl dX1_read_27
set_option maxHeartbeats 4000000 in
theorem r_read_4 (l : Launch) {D : va_G} {a : Nat → Nat} {cI cZ : ClassId} {rl st : Nat → Nat} {rc : Nat} {lo : Nat → Nat} {b i : Nat}  (hst : ∀ j, st j < 3) (hb1 : b < 6) (hi1 : i < 8) (h : st b = 0) : Met l yX1_read (ws_ yX1_read cX1_read 4 (some .int)) (pa_rm 1 23) (PcX D clA [(cI, .int), (cZ, .boolean)] [.ref (a 0), .int (nI b), .int (nI i)] (WM a cI cZ rl st rc lo)) (QcRead (nI (rl (b * 8 + i)))) 0 0 (fun _ => False) := by
  refine pa_enter (by decide) (Nat.le_of_ble_eq_true rfl) (fun p e s m below meth c ls hx hb hr hlk hml hown hin hts hP hK hl => ?_)
  have hown : s.vm.findClass RX1 = some m.cls := hown
  have hl : lv_has ls 4 [(0, .ref (a 0)), (1, .int (nI b)), (2, .int (nI i))] := hl
  refine lv_aload_n hx hb dX1_read_0 rfl (lv_at hl 0 rfl) ?_
  refine lv_iload_n hx hb dX1_read_1 rfl (lv_at hl 1 rfl) ?_
  refine lv_iload_n hx hb dX1_read_2 rfl (lv_at hl 2 rfl) ?_
  refine lv_iconst (v := nI 0) hx hb dX1_read_3 (by decide) ?_
  refine pa_callR (ci := 1) (n := 3) ⟨hx, hb, hml, hown, hts⟩ (r_refusal_5 l hst hb1 hi1 (by decide) h) hK hP rfl rfl (lw_V q201 q203 qs15 q19 q204) rfl rfl (by decide +kernel) ⟨by decide, by decide⟩ rfl hl.1 rfl (Nat.le_of_ble_eq_true rfl) dX1_read_4 ⟨Nat.le_refl _, Nat.le_refl _⟩ ?_
  refine lv_istore_n (lv' := [(3, .int (nI 0)), (0, .ref (a 0)), (1, .int (nI b)), (2, .int (nI i))]) hx hb dX1_read_7 rfl hl (by decide) rfl (fun ls hl => ?_)
  refine lv_iload_n hx hb dX1_read_8 rfl (lv_at hl 0 rfl) ?_
  refine na_if_ge (tgt := 16) hx hb dX1_read_9 (by decide) (by omega) ?_
  refine lv_aload_n hx hb dX1_read_16 rfl (lv_at hl 1 rfl) ?_
  refine m_get hx hb hts hown hK hP rfl 0 (by decide) q184 rfl rfl dX1_read_17 ?_
  refine lv_iload_n hx hb dX1_read_20 rfl (lv_at hl 2 rfl) ?_
  refine lv_bipush (v := nI 8) hx hb dX1_read_21 (by decide) ?_
  refine na_mul hx hb dX1_read_23 ?_
  refine lv_iload_n hx hb dX1_read_24 rfl (lv_at hl 3 rfl) ?_
  refine na_add hx hb dX1_read_25 ?_
  refine ra_ld hx hb hK hP 1 0 rfl rfl (by omega) (by decide) dX1_read_26 ?_
  exact pa_iretR hx hb hr hlk rfl dX1_read_27
set_option maxHeartbeats 4000000 in
theorem r_state_1 (l : Launch) {D : va_G} {a : Nat → Nat} {cI cZ : ClassId} {rl st : Nat → Nat} {rc : Nat} {lo : Nat → Nat}  {bk : Int32} (h : bk < 0 ∨ nI 6 ≤ bk) : Met l yX1_state (ws_ yX1_state cX1_state 2 (some .int)) (pa_rm 0 0) (PcX D clA [(cI, .int), (cZ, .boolean)] [.ref (a 0), .int bk] (WM a cI cZ rl st rc lo)) (QcRead (-1)) 0 0 (fun _ => False) := by
  refine pa_enter (by decide) (Nat.le_of_ble_eq_true rfl) (fun p e s m below meth c ls hx hb hr hlk hml hown hin hts hP hK hl => ?_)
  have hown : s.vm.findClass RX1 = some m.cls := hown
  have hl : lv_has ls 2 [(0, .ref (a 0)), (1, .int bk)] := hl
  rcases h with h | h
  · skip
    refine lv_iload_n hx hb dX1_state_0 rfl (lv_at hl 1 rfl) ?_
    refine lv_if_lt (tgt := 9) hx hb dX1_state_1 (by decide) (fun hc => ?_) (fun hc9 => absurd hc9 (fun q => q h))
    refine lv_iconst (v := (-1)) hx hb dX1_state_9 (by decide) ?_
    refine lv_goto (tgt := 19) hx hb dX1_state_10 (by decide) ?_
    exact pa_iretR hx hb hr hlk rfl dX1_state_19
  · skip
    refine lv_iload_n hx hb dX1_state_0 rfl (lv_at hl 1 rfl) ?_
    refine lv_if_lt (tgt := 9) hx hb dX1_state_1 (by decide) (fun hc9 => absurd hc9 (fun q => absurd (Int32.lt_of_le_of_lt h q) (by decide))) (fun hc => ?_)
    refine lv_iload_n hx hb dX1_state_4 rfl (lv_at hl 1 rfl) ?_
    refine lv_iconst (v := nI 5) hx hb dX1_state_5 (by decide) ?_
    refine lv_icmp_le (tgt := 13) hx hb dX1_state_6 (by decide) (fun hc9 => absurd hc9 (fun q => absurd (Int32.le_trans h q) (by decide))) (fun hc => ?_)
    refine lv_iconst (v := (-1)) hx hb dX1_state_9 (by decide) ?_
    refine lv_goto (tgt := 19) hx hb dX1_state_10 (by decide) ?_
    exact pa_iretR hx hb hr hlk rfl dX1_state_19
set_option maxHeartbeats 4000000 in
theorem r_state_2 (l : Launch) {D : va_G} {a : Nat → Nat} {cI cZ : ClassId} {rl st : Nat → Nat} {rc : Nat} {lo : Nat → Nat} {b : Nat}  (hb1 : b < 6) : Met l yX1_state (ws_ yX1_state cX1_state 2 (some .int)) (pa_rm 0 0) (PcX D clA [(cI, .int), (cZ, .boolean)] [.ref (a 0), .int (nI b)] (WM a cI cZ rl st rc lo)) (QcRead (nI (st b))) 0 0 (fun _ => False) := by
  refine pa_enter (by decide) (Nat.le_of_ble_eq_true rfl) (fun p e s m below meth c ls hx hb hr hlk hml hown hin hts hP hK hl => ?_)
  have hown : s.vm.findClass RX1 = some m.cls := hown
  have hl : lv_has ls 2 [(0, .ref (a 0)), (1, .int (nI b))] := hl
  refine lv_iload_n hx hb dX1_state_0 rfl (lv_at hl 1 rfl) ?_
  refine na_if_lt (tgt := 9) hx hb dX1_state_1 (by decide) (by omega) ?_
  refine lv_iload_n hx hb dX1_state_4 rfl (lv_at hl 1 rfl) ?_
  refine lv_iconst (v := nI 5) hx hb dX1_state_5 (by decide) ?_
  refine na_icmp_le (tgt := 13) hx hb dX1_state_6 (by decide) (by omega) (by omega) (fun hc => ?_) (fun hc9 => absurd hc9 (by omega))
  refine lv_aload_n hx hb dX1_state_13 rfl (lv_at hl 0 rfl) ?_
  refine m_get hx hb hts hown hK hP rfl 1 (by decide) q185 rfl rfl dX1_state_14 ?_
  refine lv_iload_n hx hb dX1_state_17 rfl (lv_at hl 1 rfl) ?_
  refine ra_ld hx hb hK hP 2 0 rfl rfl (by omega) (by decide) dX1_state_18 ?_
  exact pa_iretR hx hb hr hlk rfl dX1_state_19
set_option maxHeartbeats 4000000 in
theorem r_margin_1 (l : Launch) {D : va_G} {a : Nat → Nat} {cI cZ : ClassId} {rl st : Nat → Nat} {rc : Nat} {lo : Nat → Nat}  (hst : ∀ j, st j < 3) (hlo : ∀ j, lo j < 2) (hrc : rc ≤ 4) (h : pf_sp lo rc < pf_ng st 6) : Met l yX1_margin (ws_ yX1_margin cX1_margin 3 (some .int)) (pa_rm 1 22) (PcX D clA [(cI, .int), (cZ, .boolean)] [.ref (a 0)] (WM a cI cZ rl st rc lo)) (QcRead (-6)) 0 0 (fun _ => False) := by
  refine pa_enter (by decide) (Nat.le_of_ble_eq_true rfl) (fun p e s m below meth c ls hx hb hr hlk hml hown hin hts hP hK hl => ?_)
  have hown : s.vm.findClass RX1 = some m.cls := hown
  have hl : lv_has ls 3 [(0, .ref (a 0))] := hl
  have h1 := pf_ng_le st 6
  have h2 := pf_sp_le lo rc
  refine lv_aload_n hx hb dX1_margin_0 rfl (lv_at hl 0 rfl) ?_
  refine pa_callR (ci := 1) (n := 0) ⟨hx, hb, hml, hown, hts⟩ (r_notGood l hst) hK hP rfl rfl (lw_V q209 q211 qs16 q19 q212) rfl rfl (by decide +kernel) ⟨by decide, by decide⟩ rfl hl.1 rfl (Nat.le_of_ble_eq_true rfl) dX1_margin_1 ⟨Nat.le_refl _, Nat.le_refl _⟩ ?_
  refine lv_istore_n (lv' := [(1, .int (nI (pf_ng st 6))), (0, .ref (a 0))]) hx hb dX1_margin_4 rfl hl (by decide) rfl (fun ls hl => ?_)
  refine lv_iload_n hx hb dX1_margin_5 rfl (lv_at hl 0 rfl) ?_
  refine lv_aload_n hx hb dX1_margin_6 rfl (lv_at hl 1 rfl) ?_
  refine pa_callR (ci := 1) (n := 0) ⟨hx, hb, hml, hown, hts⟩ (r_spare l hlo hrc) hK hP rfl rfl (lw_V q229 q230 q231 q19 q232) rfl rfl (by decide +kernel) ⟨by decide, by decide⟩ rfl hl.1 rfl (Nat.le_of_ble_eq_true rfl) dX1_margin_7 ⟨Nat.le_refl _, Nat.le_refl _⟩ ?_
  refine na_icmp_le (tgt := 16) hx hb dX1_margin_10 (by decide) (by omega) (by omega) (fun hc9 => absurd hc9 (by omega)) (fun hc => ?_)
  refine lv_bipush (v := (-6)) hx hb dX1_margin_13 (by decide) ?_
  exact pa_iretR hx hb hr hlk rfl dX1_margin_15
set_option maxHeartbeats 4000000 in
theorem r_margin_2 (l : Launch) {D : va_G} {a : Nat → Nat} {cI cZ : ClassId} {rl st : Nat → Nat} {rc : Nat} {lo : Nat → Nat} {n : Nat} (hst : ∀ j, st j < 3) (hlo : ∀ j, lo j < 2) (hrc : rc ≤ 4) (h : pf_ng st 6 ≤ pf_sp lo rc) (hn : (n = pf_sp lo rc - pf_ng st 6 ∧ pf_sp lo rc - pf_ng st 6 < 6 - pf_ng st 6) ∨ (n = 6 - pf_ng st 6 ∧ 6 - pf_ng st 6 ≤ pf_sp lo rc - pf_ng st 6)) : Met l yX1_margin (ws_ yX1_margin cX1_margin 3 (some .int)) (pa_rm 1 22) (PcX D clA [(cI, .int), (cZ, .boolean)] [.ref (a 0)] (WM a cI cZ rl st rc lo)) (QcRead (nI n)) 0 0 (fun _ => False) := by
  refine pa_enter (by decide) (Nat.le_of_ble_eq_true rfl) (fun p e s m below meth c ls hx hb hr hlk hml hown hin hts hP hK hl => ?_)
  have hown : s.vm.findClass RX1 = some m.cls := hown
  have hl : lv_has ls 3 [(0, .ref (a 0))] := hl
  have h1 := pf_ng_le st 6
  have h2 := pf_sp_le lo rc
  refine lv_aload_n hx hb dX1_margin_0 rfl (lv_at hl 0 rfl) ?_
  refine pa_callR (ci := 1) (n := 0) ⟨hx, hb, hml, hown, hts⟩ (r_notGood l hst) hK hP rfl rfl (lw_V q209 q211 qs16 q19 q212) rfl rfl (by decide +kernel) ⟨by decide, by decide⟩ rfl hl.1 rfl (Nat.le_of_ble_eq_true rfl) dX1_margin_1 ⟨Nat.le_refl _, Nat.le_refl _⟩ ?_
  refine lv_istore_n (lv' := [(1, .int (nI (pf_ng st 6))), (0, .ref (a 0))]) hx hb dX1_margin_4 rfl hl (by decide) rfl (fun ls hl => ?_)
  refine lv_iload_n hx hb dX1_margin_5 rfl (lv_at hl 0 rfl) ?_
  refine lv_aload_n hx hb dX1_margin_6 rfl (lv_at hl 1 rfl) ?_
  refine pa_callR (ci := 1) (n := 0) ⟨hx, hb, hml, hown, hts⟩ (r_spare l hlo hrc) hK hP rfl rfl (lw_V q229 q230 q231 q19 q232) rfl rfl (by decide +kernel) ⟨by decide, by decide⟩ rfl hl.1 rfl (Nat.le_of_ble_eq_true rfl) dX1_margin_7 ⟨Nat.le_refl _, Nat.le_refl _⟩ ?_
  refine na_icmp_le (tgt := 16) hx hb dX1_margin_10 (by decide) (by omega) (by omega) (fun hc => ?_) (fun hc9 => absurd hc9 (by omega))
  refine lv_iconst (v := nI 0) hx hb dX1_margin_16 (by decide) ?_
  refine lv_istore_n (lv' := [(2, .int (nI 0)), (1, .int (nI (pf_ng st 6))), (0, .ref (a 0))]) hx hb dX1_margin_17 rfl hl (by decide) rfl (fun ls hl => ?_)
  refine pa_lpr (nL := 3) (fun i (x : Unit) => True) (fun i (x : Unit) => [(0, .ref (a 0)), (1, .int (nI (pf_ng st 6))), (2, .int (nI i))]) 0 n (by omega) () trivial (lv_sub hl [2, 1, 0] rfl) (fun i _ ls hge hhi hI hl ih => ?_) (fun _ ls hI hl => ?_)
  · skip
    have hI : True := hI
    have hl : lv_has ls 3 [(0, .ref (a 0)), (1, .int (nI (pf_ng st 6))), (2, .int (nI i))] := hl
    refine lv_iload_n hx hb dX1_margin_18 rfl (lv_at hl 2 rfl) ?_
    refine lv_bipush (v := nI 6) hx hb dX1_margin_19 (by decide) ?_
    refine lv_iload_n hx hb dX1_margin_21 rfl (lv_at hl 1 rfl) ?_
    refine na_sub hx hb dX1_margin_22 (by omega) ?_
    refine na_icmp_ge (tgt := 44) hx hb dX1_margin_23 (by decide) (by omega) (by omega) (fun hc9 => absurd hc9 (by omega)) (fun hc => ?_)
    refine lv_iload_n hx hb dX1_margin_26 rfl (lv_at hl 1 rfl) ?_
    refine lv_iload_n hx hb dX1_margin_27 rfl (lv_at hl 2 rfl) ?_
    refine na_add hx hb dX1_margin_28 ?_
    refine lv_iconst (v := nI 1) hx hb dX1_margin_29 (by decide) ?_
    refine na_add hx hb dX1_margin_30 ?_
    refine lv_aload_n hx hb dX1_margin_31 rfl (lv_at hl 0 rfl) ?_
    refine pa_callR (ci := 1) (n := 0) ⟨hx, hb, hml, hown, hts⟩ (r_spare l hlo hrc) hK hP rfl rfl (lw_V q229 q230 q231 q19 q232) rfl rfl (by decide +kernel) ⟨by decide, by decide⟩ rfl hl.1 rfl (Nat.le_of_ble_eq_true rfl) dX1_margin_32 ⟨Nat.le_refl _, Nat.le_refl _⟩ ?_
    refine na_icmp_gt (tgt := 44) hx hb dX1_margin_35 (by decide) (by omega) (by omega) (fun hc9 => absurd hc9 (by omega)) (fun hc => ?_)
    refine na_iinc (lv' := [(2, .int (nI (i + 1))), (0, .ref (a 0)), (1, .int (nI (pf_ng st 6)))]) hx hb dX1_margin_38 hl (k := 2) rfl (by decide) rfl (fun ls hl => ?_)
    refine lv_goto (tgt := 18) hx hb dX1_margin_41 (by decide) ?_
    exact ih () _ trivial (lv_sub hl [1, 2, 0] rfl)
  · skip
    have hI : True := hI
    have hl : lv_has ls 3 [(0, .ref (a 0)), (1, .int (nI (pf_ng st 6))), (2, .int (nI n))] := hl
    refine lv_iload_n hx hb dX1_margin_18 rfl (lv_at hl 2 rfl) ?_
    refine lv_bipush (v := nI 6) hx hb dX1_margin_19 (by decide) ?_
    refine lv_iload_n hx hb dX1_margin_21 rfl (lv_at hl 1 rfl) ?_
    refine na_sub hx hb dX1_margin_22 (by omega) ?_
    refine na_icmp_ge (tgt := 44) hx hb dX1_margin_23 (by decide) (by omega) (by omega) (fun hc => ?_) (fun hc => ?_)
    · skip
      refine lv_iload_n hx hb dX1_margin_44 rfl (lv_at hl 2 rfl) ?_
      exact pa_iretR hx hb hr hlk rfl dX1_margin_45
    · skip
      refine lv_iload_n hx hb dX1_margin_26 rfl (lv_at hl 1 rfl) ?_
      refine lv_iload_n hx hb dX1_margin_27 rfl (lv_at hl 2 rfl) ?_
      refine na_add hx hb dX1_margin_28 ?_
      refine lv_iconst (v := nI 1) hx hb dX1_margin_29 (by decide) ?_
      refine na_add hx hb dX1_margin_30 ?_
      refine lv_aload_n hx hb dX1_margin_31 rfl (lv_at hl 0 rfl) ?_
      refine pa_callR (ci := 1) (n := 0) ⟨hx, hb, hml, hown, hts⟩ (r_spare l hlo hrc) hK hP rfl rfl (lw_V q229 q230 q231 q19 q232) rfl rfl (by decide +kernel) ⟨by decide, by decide⟩ rfl hl.1 rfl (Nat.le_of_ble_eq_true rfl) dX1_margin_32 ⟨Nat.le_refl _, Nat.le_refl _⟩ ?_
      refine na_icmp_gt (tgt := 44) hx hb dX1_margin_35 (by decide) (by omega) (by omega) (fun hc => ?_) (fun hc9 => absurd hc9 (by omega))
      refine lv_iload_n hx hb dX1_margin_44 rfl (lv_at hl 2 rfl) ?_
      exact pa_iretR hx hb hr hlk rfl dX1_margin_45
end
section
set_option maxRecDepth 100000
def pa_l (l : List Nat) : Nat → Nat := fun k => l.getD k 0
theorem pa_N_of {n : Nat} {a : Nat → Nat} {ws : va_W} {A : Nat → Prop} (hD : va_D A ws) (h : ws.map Prod.fst = (List.range n).map a) : pa_N n a ∧ ∀ k, k < n → A (a k) := by
  have key : ∀ k, k < n → ∃ q, ws[k]? = some q ∧ q.1 = a k := by
    intro k hk
    have h1 : (ws.map Prod.fst)[k]? = some (a k) := by
      rw [h, List.getElem?_map, List.getElem?_range hk]; rfl
    rw [List.getElem?_map] at h1
    cases hq : ws[k]? with
    | none => rw [hq] at h1; cases h1
    | some q => rw [hq] at h1; exact ⟨q, rfl, Option.some.inj h1⟩
  refine ⟨fun i j hi hj hij => ?_, fun k hk => ?_⟩
  · obtain ⟨p, h1, h2⟩ := key i hi
    obtain ⟨q, h3, h4⟩ := key j hj
    exact hD.1 i j p q h1 h3 (by rw [h2, h4]; exact hij)
  · obtain ⟨p, h1, h2⟩ := key k hk
    rw [← h2]
    exact hD.2 k p h1
theorem WX_DA {A : Nat → Prop} {a : Nat → Nat} {cI cZ : ClassId} {pw ex da th : Nat → Nat} {ck : Nat → Int32} {rc : Nat} {re rt : Nat → Nat} {ms : Nat} {mb ur eq : Nat → Nat} (hN : pa_N 11 a) (hA : ∀ k, k < 11 → A (a k)) : va_D A (WX a cI cZ pw ex da th ck rc re rt ms mb ur eq) := (WX_D hN).weaken (fun k q hk h => by
  obtain ⟨j, hj, e⟩ := h
  rw [e]
  exact hA j hj)
theorem pa_ci {D : va_G} {cl : List vw_C} {tys : List (ClassId × FieldType)} {s : State} (hK : va_K D cl tys s) {i j : Nat} {c c' : ClassId} (h1 : tys[i]? = some (c, .int)) (h2 : tys[j]? = some (c', .int)) : c = c' := by
  have e1 : s.vm.findClass ("[" ++ FieldType.int.toString) = some c := (hK.2 i _ h1).2
  have e2 : s.vm.findClass ("[" ++ FieldType.int.toString) = some c' := (hK.2 j _ h2).2
  exact Option.some.inj (e1.symm.trans e2)
theorem pa_cz {D : va_G} {cl : List vw_C} {tys : List (ClassId × FieldType)} {s : State} (hK : va_K D cl tys s) {i j : Nat} {c c' : ClassId} (h1 : tys[i]? = some (c, .boolean)) (h2 : tys[j]? = some (c', .boolean)) : c = c' := by
  have e1 : s.vm.findClass ("[" ++ FieldType.boolean.toString) = some c := (hK.2 i _ h1).2
  have e2 : s.vm.findClass ("[" ++ FieldType.boolean.toString) = some c' := (hK.2 j _ h2).2
  exact Option.some.inj (e1.symm.trans e2)
section PB
variable {p : Program} {l : Launch} {e : Env} {R : Room} {s : State} {m : MethodId} {args : Array Value} {below : List Frame} {meth : Method} {c : Code} {H : Heap} {locs : List Loc} {cells slots : Nat} {Q : State → Prop}
variable {cc : ByteArray} {pc : Nat} {ls : Array Slot} {rest : List Value} {D : va_G} {cl : List vw_C} {A : Nat → Prop} {tys : List (ClassId × FieldType)} {ws : va_W} {H0 : Heap}
theorem pa_newI (hx : p.tables.exec = Jvm.exec) (hb : c.code = cc) (harr : (Cond.arrayClass .int).before args s = true) (hK : va_K D cl tys s) (hP : va_P D cl ws H) (hD : va_D A ws) (hS : va_S A H0 H locs) (hA : ∀ q, H0.size ≤ q → A q) (t0 : Nat) {cI : ClassId} (ht : tys[t0]? = some (cI, .int)) {N : Nat} {a0 : vp_A} (ha : ∀ cA : ClassId, vp_cell cA a0 = arrV cA N (fun _ => defaultValue .int)) (hN : N < 2 ^ 20) (hcells : cells + 1 ≤ R.cells) (hslots : slots + N ≤ R.slots) (hdg : decode cc pc = .ok (.newarray .int, 2))
    (kk : ∀ (q : Nat) (H1 : Heap), va_P D cl (ws ++ [(q, .inl (cI, a0))]) H1 → va_D A (ws ++ [(q, .inl (cI, a0))]) → va_S A H0 H1 locs → W p l e R s m args below meth c H1 locs (cells + 1) (slots + N) Q (F0 m (pc + 2) ls (.ref q :: rest))) : W p l e R s m args below meth c H locs cells slots Q (F0 m pc ls (.int (nI N) :: rest)) := by
  refine va_newa hx hb (atype := .int) (ty := .int) harr rfl hK hP hD hS hA ha (nI_pos (by omega)) (nI_clamp (by omega)) (by show N * 4 ≤ 536870912; omega) hcells hslots hdg (fun q cA H1 hK1 hP1 hD1 hS1 => ?_)
  have e1 : cA = cI := pa_ci hK1 (i := tys.length) (j := t0) (by simp) (by rw [List.getElem?_append_left (List.getElem?_eq_some_iff.mp ht).1]; exact ht)
  subst e1
  exact kk q H1 hP1 hD1 hS1
theorem pa_newZ (hx : p.tables.exec = Jvm.exec) (hb : c.code = cc) (harr : (Cond.arrayClass .boolean).before args s = true) (hK : va_K D cl tys s) (hP : va_P D cl ws H) (hD : va_D A ws) (hS : va_S A H0 H locs) (hA : ∀ q, H0.size ≤ q → A q) (t0 : Nat) {cI : ClassId} (ht : tys[t0]? = some (cI, .boolean)) {N : Nat} {a0 : vp_A} (ha : ∀ cA : ClassId, vp_cell cA a0 = arrV cA N (fun _ => defaultValue .boolean)) (hN : N < 2 ^ 20) (hcells : cells + 1 ≤ R.cells) (hslots : slots + N ≤ R.slots) (hdg : decode cc pc = .ok (.newarray .boolean, 2))
    (kk : ∀ (q : Nat) (H1 : Heap), va_P D cl (ws ++ [(q, .inl (cI, a0))]) H1 → va_D A (ws ++ [(q, .inl (cI, a0))]) → va_S A H0 H1 locs → W p l e R s m args below meth c H1 locs (cells + 1) (slots + N) Q (F0 m (pc + 2) ls (.ref q :: rest))) : W p l e R s m args below meth c H locs cells slots Q (F0 m pc ls (.int (nI N) :: rest)) := by
  refine va_newa hx hb (atype := .boolean) (ty := .boolean) harr rfl hK hP hD hS hA ha (nI_pos (by omega)) (nI_clamp (by omega)) (by show N * 1 ≤ 536870912; omega) hcells hslots hdg (fun q cA H1 hK1 hP1 hD1 hS1 => ?_)
  have e1 : cA = cI := pa_cz hK1 (i := tys.length) (j := t0) (by simp) (by rw [List.getElem?_append_left (List.getElem?_eq_some_iff.mp ht).1]; exact ht)
  subst e1
  exact kk q H1 hP1 hD1 hS1
end PB
def pf_c0 : Nat → Nat → Int32
  | 0 => fun _ => 0
  | k + 1 => upd (pf_c0 k) k (pf_sum (fun _ => 0) k 8)
/-- a constructor's start: one new object with nothing in it -/
def PcI (D : va_G) (h sz ci : Nat) (fs : List Value) : Array Value → State → Prop := fun v U => v = [Value.ref h].toArray ∧ U.heap.size = sz ∧ va_P D clA [(h, .inr (ci, fs))] U.heap ∧ va_K D clA [] U
/-- a constructor's end: its cells, at addresses that are new -/
def QcI (D : va_G) (h sz ci : Nat) (fs : List Value) (n : Nat) (w : (Nat → Nat) → ClassId → ClassId → va_W) : Array Value → State → Outcome → State → Prop := fun _ st o t => o = .returned none ∧ (∃ (a : Nat → Nat) (cI cZ : ClassId), a 0 = h ∧ pa_N n a ∧ (∀ k, 0 < k → k < n → sz ≤ a k) ∧ va_P D clA (w a cI cZ) t.heap ∧ va_K D clA [(cI, .int), (cZ, .boolean)] t) ∧ va_F (va_A [(h, .inr (ci, fs))] sz) st t
theorem PcI_blind {D : va_G} {h sz ci : Nat} {fs : List Value} : FrameBlind (PcI D h sz ci fs) := fun a U g mk q => by
  obtain ⟨q0, q1, qP, qK⟩ := q
  exact ⟨q0, q1, qP, va_K.moved (u := U) (U := U.calling g mk a) (Vm.Alike.refl U.vm) qK⟩
abbrev fs0X : List Value := [.null, .null, .null, .null, .null, .int 0, .null, .null, .int 0, .null, .null, .null]
abbrev fs0M : List Value := [.null, .null, .int 0, .null]
set_option maxHeartbeats 4000000 in
theorem m_init (l : Launch) {D : va_G} {h sz : Nat} : Met l yX0_init (ws_ yX0_init cX0_init 3 none) ({ frames := 1, cells := 10, slots := 692, locals := 23 } : Room) (PcI D h sz 0 fs0X) (QcI D h sz 0 fs0X 11 (fun a cI cZ => WX a cI cZ pf_P pf_E (fun _ => 0) (pf_pt (fun _ => 0) 6) (pf_c0 6) 0 (fun _ => 0) (fun _ => 0) 0 (fun _ => 0) (fun _ => 0) (fun _ => 0))) 10 692 (va_A [(h, .inr (0, fs0X))] sz) := by
  refine Met.ofW (cc := cX0_init) (maxL := 3) (ret := none) (by decide) rfl ?_
  intro p e s m args below meth c s₁ B hml hv
  obtain ⟨rfl, hsz, hP, hK⟩ := hv
  have hx := B.exec
  have hb := B.bytes
  have hr := B.returns
  have hlk := B.notSynchronized
  have hts := atoms_spec (ws := ws_ yX0_init cX0_init 3 none) B.pre
  have hts : ∀ w ∈ lw_all, w.before _ s = true := fun w h => hts w (List.mem_cons_of_mem _ h)
  have hown : s.vm.findClass RX0 = some m.cls := findClass_of_methodNamed B.named
  have hin : meth.name = "<init>" := (name_of_methodNamed B.named B.method).1
  subst hsz
  have hD : va_D (va_A [(h, .inr (0, fs0X))] s.heap.size) [(h, .inr (0, fs0X))] := ⟨fun i j x y hi hj _ => by
    have h1 := (List.getElem?_eq_some_iff.mp hi).1
    have h2 := (List.getElem?_eq_some_iff.mp hj).1
    simp at h1 h2
    omega, fun k q hk => va_A.in hk⟩
  have hAx : ∀ q, va_A [(h, .inr (0, fs0X))] s.heap.size q → q = h ∨ s.heap.size ≤ q := fun q hq => by
    rcases hq with ⟨k, e9, h9⟩ | h9
    · match k, h9 with
      | 0, h9 => cases h9; exact Or.inl rfl
      | k + 1, h9 => simp at h9
    · exact Or.inr h9
  have hhl : h < s.heap.size := (hP 0 _ rfl).lt
  have hS : va_S (va_A [(h, .inr (0, fs0X))] s.heap.size) s.heap s.heap [] := va_S.rf
  have hA : ∀ q : Nat, s.heap.size ≤ q → va_A [(h, .inr (0, fs0X))] s.heap.size q := fun q h => Or.inr h
  generalize hAe : va_A [(h, .inr (0, fs0X))] s.heap.size = A at hD hS hA hAx ⊢
  have hl := lv_entry ([.ref h]) (n := 3) (Nat.le_of_ble_eq_true rfl)
  rw [lg_entry_eq]
  generalize (lg_sl ([.ref h]) ++ List.replicate (3 - (lg_sl ([.ref h])).length) Slot.unset).toArray = ls at hl ⊢
  have hl : lv_has ls 3 [(0, .ref h)] := hl
  refine lv_aload_n hx hb dX0_init_0 rfl (lv_at hl 0 rfl) ?_
  refine W.objInit hx hb hown (hts _ q25) (hts _ q26) (hts _ q27) rfl (by rw [hml]; exact hl.1) rfl dX0_init_1 (Nat.le_of_ble_eq_true rfl) (Nat.le_of_ble_eq_true rfl) ?_
  refine W.eq (g2 := F0 m 4 ls []) rfl ?_
  refine lv_aload_n hx hb dX0_init_4 rfl (lv_at hl 0 rfl) ?_
  refine lv_sipush (v := nI 256) hx hb dX0_init_5 (by decide) ?_
  refine va_newa hx hb (atype := .int) (ty := .int) (a0 := (256, .inl (pa_a (fun _ => 0)))) (hts _ q70) rfl hK hP hD hS hA (fun _ => rfl) (nI_pos (by decide)) (nI_clamp (by decide)) (by decide) (Nat.le_of_ble_eq_true rfl) (Nat.le_of_ble_eq_true rfl) dX0_init_8 (fun q1 cI H hK hP hD hS => ?_)
  have hK : va_K D clA [(cI, .int)] s := hK
  have hP : va_P D clA [(h, .inr (0, [.null, .null, .null, .null, .null, .int 0, .null, .null, .int 0, .null, .null, .null])), (q1, .inl (cI, 256, .inl (pa_a (fun _ => 0))))] H := hP
  have hD : va_D A [(h, .inr (0, [.null, .null, .null, .null, .null, .int 0, .null, .null, .int 0, .null, .null, .null])), (q1, .inl (cI, 256, .inl (pa_a (fun _ => 0))))] := hD
  refine W.widen (k := 1) (n := 256) (by decide) (by decide) ?_
  refine va_putF (ci := 0) (v := .ref q1) (ty := .array .int) (C := RX0) (T := TX0) (N := 12) hx hb hts in_X0 tyX0 tyX0_ok nmX0 hown hK hP hD hS 0 rfl rfl 0 (by decide) (hts _ q33) (fun _ h9 => h9) rfl hin rfl (by decide +kernel) rfl rfl (Nat.le_of_ble_eq_true rfl) dX0_init_10 (fun H locs hP hD hS => ?_)
  have hP : va_P D clA [(h, .inr (0, [.ref q1, .null, .null, .null, .null, .int 0, .null, .null, .int 0, .null, .null, .null])), (q1, .inl (cI, 256, .inl (pa_a (fun _ => 0))))] H := hP
  have hD : va_D A [(h, .inr (0, [.ref q1, .null, .null, .null, .null, .int 0, .null, .null, .int 0, .null, .null, .null])), (q1, .inl (cI, 256, .inl (pa_a (fun _ => 0))))] := hD
  refine lv_aload_n hx hb dX0_init_13 rfl (lv_at hl 0 rfl) ?_
  refine lv_sipush (v := nI 256) hx hb dX0_init_14 (by decide) ?_
  refine pa_newI (a0 := (256, .inl (pa_a (fun _ => 0)))) hx hb (hts _ q70) hK hP hD hS hA 0 rfl (fun _ => rfl) (by decide) (Nat.le_of_ble_eq_true rfl) (Nat.le_of_ble_eq_true rfl) dX0_init_17 (fun q2 H hP hD hS => ?_)
  have hP : va_P D clA [(h, .inr (0, [.ref q1, .null, .null, .null, .null, .int 0, .null, .null, .int 0, .null, .null, .null])), (q1, .inl (cI, 256, .inl (pa_a (fun _ => 0)))), (q2, .inl (cI, 256, .inl (pa_a (fun _ => 0))))] H := hP
  have hD : va_D A [(h, .inr (0, [.ref q1, .null, .null, .null, .null, .int 0, .null, .null, .int 0, .null, .null, .null])), (q1, .inl (cI, 256, .inl (pa_a (fun _ => 0)))), (q2, .inl (cI, 256, .inl (pa_a (fun _ => 0))))] := hD
  refine W.widen (k := 2) (n := 512) (by decide) (by decide) ?_
  refine va_putF (ci := 0) (v := .ref q2) (ty := .array .int) (C := RX0) (T := TX0) (N := 12) hx hb hts in_X0 tyX0 tyX0_ok nmX0 hown hK hP hD hS 0 rfl rfl 1 (by decide) (hts _ q34) (fun _ h9 => h9) rfl hin rfl (by decide +kernel) rfl rfl (Nat.le_of_ble_eq_true rfl) dX0_init_19 (fun H locs hP hD hS => ?_)
  have hP : va_P D clA [(h, .inr (0, [.ref q1, .ref q2, .null, .null, .null, .int 0, .null, .null, .int 0, .null, .null, .null])), (q1, .inl (cI, 256, .inl (pa_a (fun _ => 0)))), (q2, .inl (cI, 256, .inl (pa_a (fun _ => 0))))] H := hP
  have hD : va_D A [(h, .inr (0, [.ref q1, .ref q2, .null, .null, .null, .int 0, .null, .null, .int 0, .null, .null, .null])), (q1, .inl (cI, 256, .inl (pa_a (fun _ => 0)))), (q2, .inl (cI, 256, .inl (pa_a (fun _ => 0))))] := hD
  refine lv_aload_n hx hb dX0_init_22 rfl (lv_at hl 0 rfl) ?_
  refine lv_bipush (v := nI 48) hx hb dX0_init_23 (by decide) ?_
  refine pa_newI (a0 := (48, .inl (pa_a (fun _ => 0)))) hx hb (hts _ q70) hK hP hD hS hA 0 rfl (fun _ => rfl) (by decide) (Nat.le_of_ble_eq_true rfl) (Nat.le_of_ble_eq_true rfl) dX0_init_25 (fun q3 H hP hD hS => ?_)
  have hP : va_P D clA [(h, .inr (0, [.ref q1, .ref q2, .null, .null, .null, .int 0, .null, .null, .int 0, .null, .null, .null])), (q1, .inl (cI, 256, .inl (pa_a (fun _ => 0)))), (q2, .inl (cI, 256, .inl (pa_a (fun _ => 0)))), (q3, .inl (cI, 48, .inl (pa_a (fun _ => 0))))] H := hP
  have hD : va_D A [(h, .inr (0, [.ref q1, .ref q2, .null, .null, .null, .int 0, .null, .null, .int 0, .null, .null, .null])), (q1, .inl (cI, 256, .inl (pa_a (fun _ => 0)))), (q2, .inl (cI, 256, .inl (pa_a (fun _ => 0)))), (q3, .inl (cI, 48, .inl (pa_a (fun _ => 0))))] := hD
  refine W.widen (k := 3) (n := 560) (by decide) (by decide) ?_
  refine va_putF (ci := 0) (v := .ref q3) (ty := .array .int) (C := RX0) (T := TX0) (N := 12) hx hb hts in_X0 tyX0 tyX0_ok nmX0 hown hK hP hD hS 0 rfl rfl 2 (by decide) (hts _ q35) (fun _ h9 => h9) rfl hin rfl (by decide +kernel) rfl rfl (Nat.le_of_ble_eq_true rfl) dX0_init_27 (fun H locs hP hD hS => ?_)
  have hP : va_P D clA [(h, .inr (0, [.ref q1, .ref q2, .ref q3, .null, .null, .int 0, .null, .null, .int 0, .null, .null, .null])), (q1, .inl (cI, 256, .inl (pa_a (fun _ => 0)))), (q2, .inl (cI, 256, .inl (pa_a (fun _ => 0)))), (q3, .inl (cI, 48, .inl (pa_a (fun _ => 0))))] H := hP
  have hD : va_D A [(h, .inr (0, [.ref q1, .ref q2, .ref q3, .null, .null, .int 0, .null, .null, .int 0, .null, .null, .null])), (q1, .inl (cI, 256, .inl (pa_a (fun _ => 0)))), (q2, .inl (cI, 256, .inl (pa_a (fun _ => 0)))), (q3, .inl (cI, 48, .inl (pa_a (fun _ => 0))))] := hD
  refine lv_aload_n hx hb dX0_init_30 rfl (lv_at hl 0 rfl) ?_
  refine lv_bipush (v := nI 6) hx hb dX0_init_31 (by decide) ?_
  refine va_newa hx hb (atype := .boolean) (ty := .boolean) (a0 := (6, .inl (pa_a (fun _ => 0)))) (hts _ q71) rfl hK hP hD hS hA (fun _ => rfl) (nI_pos (by decide)) (nI_clamp (by decide)) (by decide) (Nat.le_of_ble_eq_true rfl) (Nat.le_of_ble_eq_true rfl) dX0_init_33 (fun q4 cZ H hK hP hD hS => ?_)
  have hK : va_K D clA [(cI, .int), (cZ, .boolean)] s := hK
  have hP : va_P D clA [(h, .inr (0, [.ref q1, .ref q2, .ref q3, .null, .null, .int 0, .null, .null, .int 0, .null, .null, .null])), (q1, .inl (cI, 256, .inl (pa_a (fun _ => 0)))), (q2, .inl (cI, 256, .inl (pa_a (fun _ => 0)))), (q3, .inl (cI, 48, .inl (pa_a (fun _ => 0)))), (q4, .inl (cZ, 6, .inl (pa_a (fun _ => 0))))] H := hP
  have hD : va_D A [(h, .inr (0, [.ref q1, .ref q2, .ref q3, .null, .null, .int 0, .null, .null, .int 0, .null, .null, .null])), (q1, .inl (cI, 256, .inl (pa_a (fun _ => 0)))), (q2, .inl (cI, 256, .inl (pa_a (fun _ => 0)))), (q3, .inl (cI, 48, .inl (pa_a (fun _ => 0)))), (q4, .inl (cZ, 6, .inl (pa_a (fun _ => 0))))] := hD
  refine W.widen (k := 4) (n := 566) (by decide) (by decide) ?_
  refine va_putF (ci := 0) (v := .ref q4) (ty := .array .boolean) (C := RX0) (T := TX0) (N := 12) hx hb hts in_X0 tyX0 tyX0_ok nmX0 hown hK hP hD hS 0 rfl rfl 3 (by decide) (hts _ q36) (fun _ h9 => h9) rfl hin rfl (by decide +kernel) rfl rfl (Nat.le_of_ble_eq_true rfl) dX0_init_35 (fun H locs hP hD hS => ?_)
  have hP : va_P D clA [(h, .inr (0, [.ref q1, .ref q2, .ref q3, .ref q4, .null, .int 0, .null, .null, .int 0, .null, .null, .null])), (q1, .inl (cI, 256, .inl (pa_a (fun _ => 0)))), (q2, .inl (cI, 256, .inl (pa_a (fun _ => 0)))), (q3, .inl (cI, 48, .inl (pa_a (fun _ => 0)))), (q4, .inl (cZ, 6, .inl (pa_a (fun _ => 0))))] H := hP
  have hD : va_D A [(h, .inr (0, [.ref q1, .ref q2, .ref q3, .ref q4, .null, .int 0, .null, .null, .int 0, .null, .null, .null])), (q1, .inl (cI, 256, .inl (pa_a (fun _ => 0)))), (q2, .inl (cI, 256, .inl (pa_a (fun _ => 0)))), (q3, .inl (cI, 48, .inl (pa_a (fun _ => 0)))), (q4, .inl (cZ, 6, .inl (pa_a (fun _ => 0))))] := hD
  refine lv_aload_n hx hb dX0_init_38 rfl (lv_at hl 0 rfl) ?_
  refine lv_bipush (v := nI 6) hx hb dX0_init_39 (by decide) ?_
  refine pa_newI (a0 := (6, .inl (fun _ => 0))) hx hb (hts _ q70) hK hP hD hS hA 0 rfl (fun _ => rfl) (by decide) (Nat.le_of_ble_eq_true rfl) (Nat.le_of_ble_eq_true rfl) dX0_init_41 (fun q5 H hP hD hS => ?_)
  have hP : va_P D clA [(h, .inr (0, [.ref q1, .ref q2, .ref q3, .ref q4, .null, .int 0, .null, .null, .int 0, .null, .null, .null])), (q1, .inl (cI, 256, .inl (pa_a (fun _ => 0)))), (q2, .inl (cI, 256, .inl (pa_a (fun _ => 0)))), (q3, .inl (cI, 48, .inl (pa_a (fun _ => 0)))), (q4, .inl (cZ, 6, .inl (pa_a (fun _ => 0)))), (q5, .inl (cI, 6, .inl (fun _ => 0)))] H := hP
  have hD : va_D A [(h, .inr (0, [.ref q1, .ref q2, .ref q3, .ref q4, .null, .int 0, .null, .null, .int 0, .null, .null, .null])), (q1, .inl (cI, 256, .inl (pa_a (fun _ => 0)))), (q2, .inl (cI, 256, .inl (pa_a (fun _ => 0)))), (q3, .inl (cI, 48, .inl (pa_a (fun _ => 0)))), (q4, .inl (cZ, 6, .inl (pa_a (fun _ => 0)))), (q5, .inl (cI, 6, .inl (fun _ => 0)))] := hD
  refine W.widen (k := 5) (n := 572) (by decide) (by decide) ?_
  refine va_putF (ci := 0) (v := .ref q5) (ty := .array .int) (C := RX0) (T := TX0) (N := 12) hx hb hts in_X0 tyX0 tyX0_ok nmX0 hown hK hP hD hS 0 rfl rfl 4 (by decide) (hts _ q37) (fun _ h9 => h9) rfl hin rfl (by decide +kernel) rfl rfl (Nat.le_of_ble_eq_true rfl) dX0_init_43 (fun H locs hP hD hS => ?_)
  have hP : va_P D clA [(h, .inr (0, [.ref q1, .ref q2, .ref q3, .ref q4, .ref q5, .int 0, .null, .null, .int 0, .null, .null, .null])), (q1, .inl (cI, 256, .inl (pa_a (fun _ => 0)))), (q2, .inl (cI, 256, .inl (pa_a (fun _ => 0)))), (q3, .inl (cI, 48, .inl (pa_a (fun _ => 0)))), (q4, .inl (cZ, 6, .inl (pa_a (fun _ => 0)))), (q5, .inl (cI, 6, .inl (fun _ => 0)))] H := hP
  have hD : va_D A [(h, .inr (0, [.ref q1, .ref q2, .ref q3, .ref q4, .ref q5, .int 0, .null, .null, .int 0, .null, .null, .null])), (q1, .inl (cI, 256, .inl (pa_a (fun _ => 0)))), (q2, .inl (cI, 256, .inl (pa_a (fun _ => 0)))), (q3, .inl (cI, 48, .inl (pa_a (fun _ => 0)))), (q4, .inl (cZ, 6, .inl (pa_a (fun _ => 0)))), (q5, .inl (cI, 6, .inl (fun _ => 0)))] := hD
  refine lv_aload_n hx hb dX0_init_46 rfl (lv_at hl 0 rfl) ?_
  refine lv_bipush (v := nI 32) hx hb dX0_init_47 (by decide) ?_
  refine pa_newI (a0 := (32, .inl (pa_a (fun _ => 0)))) hx hb (hts _ q70) hK hP hD hS hA 0 rfl (fun _ => rfl) (by decide) (Nat.le_of_ble_eq_true rfl) (Nat.le_of_ble_eq_true rfl) dX0_init_49 (fun q6 H hP hD hS => ?_)
  have hP : va_P D clA [(h, .inr (0, [.ref q1, .ref q2, .ref q3, .ref q4, .ref q5, .int 0, .null, .null, .int 0, .null, .null, .null])), (q1, .inl (cI, 256, .inl (pa_a (fun _ => 0)))), (q2, .inl (cI, 256, .inl (pa_a (fun _ => 0)))), (q3, .inl (cI, 48, .inl (pa_a (fun _ => 0)))), (q4, .inl (cZ, 6, .inl (pa_a (fun _ => 0)))), (q5, .inl (cI, 6, .inl (fun _ => 0))), (q6, .inl (cI, 32, .inl (pa_a (fun _ => 0))))] H := hP
  have hD : va_D A [(h, .inr (0, [.ref q1, .ref q2, .ref q3, .ref q4, .ref q5, .int 0, .null, .null, .int 0, .null, .null, .null])), (q1, .inl (cI, 256, .inl (pa_a (fun _ => 0)))), (q2, .inl (cI, 256, .inl (pa_a (fun _ => 0)))), (q3, .inl (cI, 48, .inl (pa_a (fun _ => 0)))), (q4, .inl (cZ, 6, .inl (pa_a (fun _ => 0)))), (q5, .inl (cI, 6, .inl (fun _ => 0))), (q6, .inl (cI, 32, .inl (pa_a (fun _ => 0))))] := hD
  refine W.widen (k := 6) (n := 604) (by decide) (by decide) ?_
  refine va_putF (ci := 0) (v := .ref q6) (ty := .array .int) (C := RX0) (T := TX0) (N := 12) hx hb hts in_X0 tyX0 tyX0_ok nmX0 hown hK hP hD hS 0 rfl rfl 6 (by decide) (hts _ q39) (fun _ h9 => h9) rfl hin rfl (by decide +kernel) rfl rfl (Nat.le_of_ble_eq_true rfl) dX0_init_51 (fun H locs hP hD hS => ?_)
  have hP : va_P D clA [(h, .inr (0, [.ref q1, .ref q2, .ref q3, .ref q4, .ref q5, .int 0, .ref q6, .null, .int 0, .null, .null, .null])), (q1, .inl (cI, 256, .inl (pa_a (fun _ => 0)))), (q2, .inl (cI, 256, .inl (pa_a (fun _ => 0)))), (q3, .inl (cI, 48, .inl (pa_a (fun _ => 0)))), (q4, .inl (cZ, 6, .inl (pa_a (fun _ => 0)))), (q5, .inl (cI, 6, .inl (fun _ => 0))), (q6, .inl (cI, 32, .inl (pa_a (fun _ => 0))))] H := hP
  have hD : va_D A [(h, .inr (0, [.ref q1, .ref q2, .ref q3, .ref q4, .ref q5, .int 0, .ref q6, .null, .int 0, .null, .null, .null])), (q1, .inl (cI, 256, .inl (pa_a (fun _ => 0)))), (q2, .inl (cI, 256, .inl (pa_a (fun _ => 0)))), (q3, .inl (cI, 48, .inl (pa_a (fun _ => 0)))), (q4, .inl (cZ, 6, .inl (pa_a (fun _ => 0)))), (q5, .inl (cI, 6, .inl (fun _ => 0))), (q6, .inl (cI, 32, .inl (pa_a (fun _ => 0))))] := hD
  refine lv_aload_n hx hb dX0_init_54 rfl (lv_at hl 0 rfl) ?_
  refine lv_iconst (v := nI 4) hx hb dX0_init_55 (by decide) ?_
  refine pa_newZ (a0 := (4, .inl (pa_a (fun _ => 0)))) hx hb (hts _ q71) hK hP hD hS hA 1 rfl (fun _ => rfl) (by decide) (Nat.le_of_ble_eq_true rfl) (Nat.le_of_ble_eq_true rfl) dX0_init_56 (fun q7 H hP hD hS => ?_)
  have hP : va_P D clA [(h, .inr (0, [.ref q1, .ref q2, .ref q3, .ref q4, .ref q5, .int 0, .ref q6, .null, .int 0, .null, .null, .null])), (q1, .inl (cI, 256, .inl (pa_a (fun _ => 0)))), (q2, .inl (cI, 256, .inl (pa_a (fun _ => 0)))), (q3, .inl (cI, 48, .inl (pa_a (fun _ => 0)))), (q4, .inl (cZ, 6, .inl (pa_a (fun _ => 0)))), (q5, .inl (cI, 6, .inl (fun _ => 0))), (q6, .inl (cI, 32, .inl (pa_a (fun _ => 0)))), (q7, .inl (cZ, 4, .inl (pa_a (fun _ => 0))))] H := hP
  have hD : va_D A [(h, .inr (0, [.ref q1, .ref q2, .ref q3, .ref q4, .ref q5, .int 0, .ref q6, .null, .int 0, .null, .null, .null])), (q1, .inl (cI, 256, .inl (pa_a (fun _ => 0)))), (q2, .inl (cI, 256, .inl (pa_a (fun _ => 0)))), (q3, .inl (cI, 48, .inl (pa_a (fun _ => 0)))), (q4, .inl (cZ, 6, .inl (pa_a (fun _ => 0)))), (q5, .inl (cI, 6, .inl (fun _ => 0))), (q6, .inl (cI, 32, .inl (pa_a (fun _ => 0)))), (q7, .inl (cZ, 4, .inl (pa_a (fun _ => 0))))] := hD
  refine W.widen (k := 7) (n := 608) (by decide) (by decide) ?_
  refine va_putF (ci := 0) (v := .ref q7) (ty := .array .boolean) (C := RX0) (T := TX0) (N := 12) hx hb hts in_X0 tyX0 tyX0_ok nmX0 hown hK hP hD hS 0 rfl rfl 7 (by decide) (hts _ q40) (fun _ h9 => h9) rfl hin rfl (by decide +kernel) rfl rfl (Nat.le_of_ble_eq_true rfl) dX0_init_58 (fun H locs hP hD hS => ?_)
  have hP : va_P D clA [(h, .inr (0, [.ref q1, .ref q2, .ref q3, .ref q4, .ref q5, .int 0, .ref q6, .ref q7, .int 0, .null, .null, .null])), (q1, .inl (cI, 256, .inl (pa_a (fun _ => 0)))), (q2, .inl (cI, 256, .inl (pa_a (fun _ => 0)))), (q3, .inl (cI, 48, .inl (pa_a (fun _ => 0)))), (q4, .inl (cZ, 6, .inl (pa_a (fun _ => 0)))), (q5, .inl (cI, 6, .inl (fun _ => 0))), (q6, .inl (cI, 32, .inl (pa_a (fun _ => 0)))), (q7, .inl (cZ, 4, .inl (pa_a (fun _ => 0))))] H := hP
  have hD : va_D A [(h, .inr (0, [.ref q1, .ref q2, .ref q3, .ref q4, .ref q5, .int 0, .ref q6, .ref q7, .int 0, .null, .null, .null])), (q1, .inl (cI, 256, .inl (pa_a (fun _ => 0)))), (q2, .inl (cI, 256, .inl (pa_a (fun _ => 0)))), (q3, .inl (cI, 48, .inl (pa_a (fun _ => 0)))), (q4, .inl (cZ, 6, .inl (pa_a (fun _ => 0)))), (q5, .inl (cI, 6, .inl (fun _ => 0))), (q6, .inl (cI, 32, .inl (pa_a (fun _ => 0)))), (q7, .inl (cZ, 4, .inl (pa_a (fun _ => 0))))] := hD
  refine lv_aload_n hx hb dX0_init_61 rfl (lv_at hl 0 rfl) ?_
  refine lv_bipush (v := nI 6) hx hb dX0_init_62 (by decide) ?_
  refine pa_newI (a0 := (6, .inl (pa_a (fun _ => 0)))) hx hb (hts _ q70) hK hP hD hS hA 0 rfl (fun _ => rfl) (by decide) (Nat.le_of_ble_eq_true rfl) (Nat.le_of_ble_eq_true rfl) dX0_init_64 (fun q8 H hP hD hS => ?_)
  have hP : va_P D clA [(h, .inr (0, [.ref q1, .ref q2, .ref q3, .ref q4, .ref q5, .int 0, .ref q6, .ref q7, .int 0, .null, .null, .null])), (q1, .inl (cI, 256, .inl (pa_a (fun _ => 0)))), (q2, .inl (cI, 256, .inl (pa_a (fun _ => 0)))), (q3, .inl (cI, 48, .inl (pa_a (fun _ => 0)))), (q4, .inl (cZ, 6, .inl (pa_a (fun _ => 0)))), (q5, .inl (cI, 6, .inl (fun _ => 0))), (q6, .inl (cI, 32, .inl (pa_a (fun _ => 0)))), (q7, .inl (cZ, 4, .inl (pa_a (fun _ => 0)))), (q8, .inl (cI, 6, .inl (pa_a (fun _ => 0))))] H := hP
  have hD : va_D A [(h, .inr (0, [.ref q1, .ref q2, .ref q3, .ref q4, .ref q5, .int 0, .ref q6, .ref q7, .int 0, .null, .null, .null])), (q1, .inl (cI, 256, .inl (pa_a (fun _ => 0)))), (q2, .inl (cI, 256, .inl (pa_a (fun _ => 0)))), (q3, .inl (cI, 48, .inl (pa_a (fun _ => 0)))), (q4, .inl (cZ, 6, .inl (pa_a (fun _ => 0)))), (q5, .inl (cI, 6, .inl (fun _ => 0))), (q6, .inl (cI, 32, .inl (pa_a (fun _ => 0)))), (q7, .inl (cZ, 4, .inl (pa_a (fun _ => 0)))), (q8, .inl (cI, 6, .inl (pa_a (fun _ => 0))))] := hD
  refine W.widen (k := 8) (n := 614) (by decide) (by decide) ?_
  refine va_putF (ci := 0) (v := .ref q8) (ty := .array .int) (C := RX0) (T := TX0) (N := 12) hx hb hts in_X0 tyX0 tyX0_ok nmX0 hown hK hP hD hS 0 rfl rfl 9 (by decide) (hts _ q42) (fun _ h9 => h9) rfl hin rfl (by decide +kernel) rfl rfl (Nat.le_of_ble_eq_true rfl) dX0_init_66 (fun H locs hP hD hS => ?_)
  have hP : va_P D clA [(h, .inr (0, [.ref q1, .ref q2, .ref q3, .ref q4, .ref q5, .int 0, .ref q6, .ref q7, .int 0, .ref q8, .null, .null])), (q1, .inl (cI, 256, .inl (pa_a (fun _ => 0)))), (q2, .inl (cI, 256, .inl (pa_a (fun _ => 0)))), (q3, .inl (cI, 48, .inl (pa_a (fun _ => 0)))), (q4, .inl (cZ, 6, .inl (pa_a (fun _ => 0)))), (q5, .inl (cI, 6, .inl (fun _ => 0))), (q6, .inl (cI, 32, .inl (pa_a (fun _ => 0)))), (q7, .inl (cZ, 4, .inl (pa_a (fun _ => 0)))), (q8, .inl (cI, 6, .inl (pa_a (fun _ => 0))))] H := hP
  have hD : va_D A [(h, .inr (0, [.ref q1, .ref q2, .ref q3, .ref q4, .ref q5, .int 0, .ref q6, .ref q7, .int 0, .ref q8, .null, .null])), (q1, .inl (cI, 256, .inl (pa_a (fun _ => 0)))), (q2, .inl (cI, 256, .inl (pa_a (fun _ => 0)))), (q3, .inl (cI, 48, .inl (pa_a (fun _ => 0)))), (q4, .inl (cZ, 6, .inl (pa_a (fun _ => 0)))), (q5, .inl (cI, 6, .inl (fun _ => 0))), (q6, .inl (cI, 32, .inl (pa_a (fun _ => 0)))), (q7, .inl (cZ, 4, .inl (pa_a (fun _ => 0)))), (q8, .inl (cI, 6, .inl (pa_a (fun _ => 0))))] := hD
  refine lv_aload_n hx hb dX0_init_69 rfl (lv_at hl 0 rfl) ?_
  refine lv_bipush (v := nI 6) hx hb dX0_init_70 (by decide) ?_
  refine pa_newI (a0 := (6, .inl (pa_a (fun _ => 0)))) hx hb (hts _ q70) hK hP hD hS hA 0 rfl (fun _ => rfl) (by decide) (Nat.le_of_ble_eq_true rfl) (Nat.le_of_ble_eq_true rfl) dX0_init_72 (fun q9 H hP hD hS => ?_)
  have hP : va_P D clA [(h, .inr (0, [.ref q1, .ref q2, .ref q3, .ref q4, .ref q5, .int 0, .ref q6, .ref q7, .int 0, .ref q8, .null, .null])), (q1, .inl (cI, 256, .inl (pa_a (fun _ => 0)))), (q2, .inl (cI, 256, .inl (pa_a (fun _ => 0)))), (q3, .inl (cI, 48, .inl (pa_a (fun _ => 0)))), (q4, .inl (cZ, 6, .inl (pa_a (fun _ => 0)))), (q5, .inl (cI, 6, .inl (fun _ => 0))), (q6, .inl (cI, 32, .inl (pa_a (fun _ => 0)))), (q7, .inl (cZ, 4, .inl (pa_a (fun _ => 0)))), (q8, .inl (cI, 6, .inl (pa_a (fun _ => 0)))), (q9, .inl (cI, 6, .inl (pa_a (fun _ => 0))))] H := hP
  have hD : va_D A [(h, .inr (0, [.ref q1, .ref q2, .ref q3, .ref q4, .ref q5, .int 0, .ref q6, .ref q7, .int 0, .ref q8, .null, .null])), (q1, .inl (cI, 256, .inl (pa_a (fun _ => 0)))), (q2, .inl (cI, 256, .inl (pa_a (fun _ => 0)))), (q3, .inl (cI, 48, .inl (pa_a (fun _ => 0)))), (q4, .inl (cZ, 6, .inl (pa_a (fun _ => 0)))), (q5, .inl (cI, 6, .inl (fun _ => 0))), (q6, .inl (cI, 32, .inl (pa_a (fun _ => 0)))), (q7, .inl (cZ, 4, .inl (pa_a (fun _ => 0)))), (q8, .inl (cI, 6, .inl (pa_a (fun _ => 0)))), (q9, .inl (cI, 6, .inl (pa_a (fun _ => 0))))] := hD
  refine W.widen (k := 9) (n := 620) (by decide) (by decide) ?_
  refine va_putF (ci := 0) (v := .ref q9) (ty := .array .int) (C := RX0) (T := TX0) (N := 12) hx hb hts in_X0 tyX0 tyX0_ok nmX0 hown hK hP hD hS 0 rfl rfl 10 (by decide) (hts _ q43) (fun _ h9 => h9) rfl hin rfl (by decide +kernel) rfl rfl (Nat.le_of_ble_eq_true rfl) dX0_init_74 (fun H locs hP hD hS => ?_)
  have hP : va_P D clA [(h, .inr (0, [.ref q1, .ref q2, .ref q3, .ref q4, .ref q5, .int 0, .ref q6, .ref q7, .int 0, .ref q8, .ref q9, .null])), (q1, .inl (cI, 256, .inl (pa_a (fun _ => 0)))), (q2, .inl (cI, 256, .inl (pa_a (fun _ => 0)))), (q3, .inl (cI, 48, .inl (pa_a (fun _ => 0)))), (q4, .inl (cZ, 6, .inl (pa_a (fun _ => 0)))), (q5, .inl (cI, 6, .inl (fun _ => 0))), (q6, .inl (cI, 32, .inl (pa_a (fun _ => 0)))), (q7, .inl (cZ, 4, .inl (pa_a (fun _ => 0)))), (q8, .inl (cI, 6, .inl (pa_a (fun _ => 0)))), (q9, .inl (cI, 6, .inl (pa_a (fun _ => 0))))] H := hP
  have hD : va_D A [(h, .inr (0, [.ref q1, .ref q2, .ref q3, .ref q4, .ref q5, .int 0, .ref q6, .ref q7, .int 0, .ref q8, .ref q9, .null])), (q1, .inl (cI, 256, .inl (pa_a (fun _ => 0)))), (q2, .inl (cI, 256, .inl (pa_a (fun _ => 0)))), (q3, .inl (cI, 48, .inl (pa_a (fun _ => 0)))), (q4, .inl (cZ, 6, .inl (pa_a (fun _ => 0)))), (q5, .inl (cI, 6, .inl (fun _ => 0))), (q6, .inl (cI, 32, .inl (pa_a (fun _ => 0)))), (q7, .inl (cZ, 4, .inl (pa_a (fun _ => 0)))), (q8, .inl (cI, 6, .inl (pa_a (fun _ => 0)))), (q9, .inl (cI, 6, .inl (pa_a (fun _ => 0))))] := hD
  refine lv_aload_n hx hb dX0_init_77 rfl (lv_at hl 0 rfl) ?_
  refine lv_bipush (v := nI 72) hx hb dX0_init_78 (by decide) ?_
  refine pa_newI (a0 := (72, .inl (pa_a (fun _ => 0)))) hx hb (hts _ q70) hK hP hD hS hA 0 rfl (fun _ => rfl) (by decide) (Nat.le_of_ble_eq_true rfl) (Nat.le_of_ble_eq_true rfl) dX0_init_80 (fun q10 H hP hD hS => ?_)
  have hP : va_P D clA [(h, .inr (0, [.ref q1, .ref q2, .ref q3, .ref q4, .ref q5, .int 0, .ref q6, .ref q7, .int 0, .ref q8, .ref q9, .null])), (q1, .inl (cI, 256, .inl (pa_a (fun _ => 0)))), (q2, .inl (cI, 256, .inl (pa_a (fun _ => 0)))), (q3, .inl (cI, 48, .inl (pa_a (fun _ => 0)))), (q4, .inl (cZ, 6, .inl (pa_a (fun _ => 0)))), (q5, .inl (cI, 6, .inl (fun _ => 0))), (q6, .inl (cI, 32, .inl (pa_a (fun _ => 0)))), (q7, .inl (cZ, 4, .inl (pa_a (fun _ => 0)))), (q8, .inl (cI, 6, .inl (pa_a (fun _ => 0)))), (q9, .inl (cI, 6, .inl (pa_a (fun _ => 0)))), (q10, .inl (cI, 72, .inl (pa_a (fun _ => 0))))] H := hP
  have hD : va_D A [(h, .inr (0, [.ref q1, .ref q2, .ref q3, .ref q4, .ref q5, .int 0, .ref q6, .ref q7, .int 0, .ref q8, .ref q9, .null])), (q1, .inl (cI, 256, .inl (pa_a (fun _ => 0)))), (q2, .inl (cI, 256, .inl (pa_a (fun _ => 0)))), (q3, .inl (cI, 48, .inl (pa_a (fun _ => 0)))), (q4, .inl (cZ, 6, .inl (pa_a (fun _ => 0)))), (q5, .inl (cI, 6, .inl (fun _ => 0))), (q6, .inl (cI, 32, .inl (pa_a (fun _ => 0)))), (q7, .inl (cZ, 4, .inl (pa_a (fun _ => 0)))), (q8, .inl (cI, 6, .inl (pa_a (fun _ => 0)))), (q9, .inl (cI, 6, .inl (pa_a (fun _ => 0)))), (q10, .inl (cI, 72, .inl (pa_a (fun _ => 0))))] := hD
  refine W.widen (k := 10) (n := 692) (by decide) (by decide) ?_
  refine va_putF (ci := 0) (v := .ref q10) (ty := .array .int) (C := RX0) (T := TX0) (N := 12) hx hb hts in_X0 tyX0 tyX0_ok nmX0 hown hK hP hD hS 0 rfl rfl 11 (by decide) (hts _ q44) (fun _ h9 => h9) rfl hin rfl (by decide +kernel) rfl rfl (Nat.le_of_ble_eq_true rfl) dX0_init_82 (fun H locs hP hD hS => ?_)
  have hP : va_P D clA [(h, .inr (0, [.ref q1, .ref q2, .ref q3, .ref q4, .ref q5, .int 0, .ref q6, .ref q7, .int 0, .ref q8, .ref q9, .ref q10])), (q1, .inl (cI, 256, .inl (pa_a (fun _ => 0)))), (q2, .inl (cI, 256, .inl (pa_a (fun _ => 0)))), (q3, .inl (cI, 48, .inl (pa_a (fun _ => 0)))), (q4, .inl (cZ, 6, .inl (pa_a (fun _ => 0)))), (q5, .inl (cI, 6, .inl (fun _ => 0))), (q6, .inl (cI, 32, .inl (pa_a (fun _ => 0)))), (q7, .inl (cZ, 4, .inl (pa_a (fun _ => 0)))), (q8, .inl (cI, 6, .inl (pa_a (fun _ => 0)))), (q9, .inl (cI, 6, .inl (pa_a (fun _ => 0)))), (q10, .inl (cI, 72, .inl (pa_a (fun _ => 0))))] H := hP
  have hD : va_D A [(h, .inr (0, [.ref q1, .ref q2, .ref q3, .ref q4, .ref q5, .int 0, .ref q6, .ref q7, .int 0, .ref q8, .ref q9, .ref q10])), (q1, .inl (cI, 256, .inl (pa_a (fun _ => 0)))), (q2, .inl (cI, 256, .inl (pa_a (fun _ => 0)))), (q3, .inl (cI, 48, .inl (pa_a (fun _ => 0)))), (q4, .inl (cZ, 6, .inl (pa_a (fun _ => 0)))), (q5, .inl (cI, 6, .inl (fun _ => 0))), (q6, .inl (cI, 32, .inl (pa_a (fun _ => 0)))), (q7, .inl (cZ, 4, .inl (pa_a (fun _ => 0)))), (q8, .inl (cI, 6, .inl (pa_a (fun _ => 0)))), (q9, .inl (cI, 6, .inl (pa_a (fun _ => 0)))), (q10, .inl (cI, 72, .inl (pa_a (fun _ => 0))))] := hD
  have hP : va_P D clA (WX (pa_l [h, q1, q2, q3, q4, q5, q6, q7, q8, q9, q10]) cI cZ ((fun _ => 0)) ((fun _ => 0)) ((fun _ => 0)) ((fun _ => 0)) ((fun _ => 0)) 0 ((fun _ => 0)) ((fun _ => 0)) 0 ((fun _ => 0)) ((fun _ => 0)) ((fun _ => 0))) H := hP
  have hD : va_D A (WX (pa_l [h, q1, q2, q3, q4, q5, q6, q7, q8, q9, q10]) cI cZ ((fun _ => 0)) ((fun _ => 0)) ((fun _ => 0)) ((fun _ => 0)) ((fun _ => 0)) 0 ((fun _ => 0)) ((fun _ => 0)) 0 ((fun _ => 0)) ((fun _ => 0)) ((fun _ => 0))) := hD
  have hl : lv_has ls 3 [(0, .ref ((pa_l [h, q1, q2, q3, q4, q5, q6, q7, q8, q9, q10]) 0))] := hl
  have ha0 : (pa_l [h, q1, q2, q3, q4, q5, q6, q7, q8, q9, q10]) 0 = h := rfl
  generalize (pa_l [h, q1, q2, q3, q4, q5, q6, q7, q8, q9, q10]) = a at hP hD hl ha0
  obtain ⟨hN, hAa⟩ := pa_N_of (n := 11) (a := a) hD rfl
  have hnew : ∀ k, 0 < k → k < 11 → s.heap.size ≤ a k := fun k h1 h2 => by
    rcases hAx _ (hAa k h2) with h3 | h3
    · exact absurd (hN k 0 h2 (by decide) (by rw [h3, ha0])) (by omega)
    · exact h3
  refine lv_iconst (v := nI 1) hx hb dX0_init_85 (by decide) ?_
  refine lv_istore_n (lv' := [(1, .int (nI 1)), (0, .ref (a 0))]) hx hb dX0_init_86 rfl hl (by decide) rfl (fun ls hl => ?_)
  refine lv_iconst (v := nI 0) hx hb dX0_init_87 (by decide) ?_
  refine lv_istore_n (lv' := [(2, .int (nI 0)), (1, .int (nI 1)), (0, .ref (a 0))]) hx hb dX0_init_88 rfl hl (by decide) rfl (fun ls hl => ?_)
  refine pa_lpm (nL := 3) (fun i (x : Nat × (Nat → Nat) × (Nat → Nat)) => x.1 = pf_xs i ∧ x.2.1 = pf_pow i ∧ x.2.2 = pf_exp i) (fun i (x : Nat × (Nat → Nat) × (Nat → Nat)) => [(0, .ref (a 0)), (1, .int (nI x.1)), (2, .int (nI i))]) (fun i (x : Nat × (Nat → Nat) × (Nat → Nat)) => WX a cI cZ x.2.1 x.2.2 ((fun _ => 0)) ((fun _ => 0)) ((fun _ => 0)) 0 ((fun _ => 0)) ((fun _ => 0)) 0 ((fun _ => 0)) ((fun _ => 0)) ((fun _ => 0))) 0 255 (by omega) (1, (fun _ => 0), (fun _ => 0)) ⟨rfl, rfl, rfl⟩ (lv_sub hl [2, 1, 0] rfl) hP hS (fun i x H locs ls hge hhi hI hl hP hS ih => ?_) (fun x H locs ls hI hl hP hS => ?_)
  · skip
    obtain ⟨t, f, f2⟩ := x
    have hI : t = pf_xs i ∧ f = pf_pow i ∧ f2 = pf_exp i := hI
    have hl : lv_has ls 3 [(0, .ref (a 0)), (1, .int (nI t)), (2, .int (nI i))] := hl
    have hP : va_P D clA (WX a cI cZ f f2 ((fun _ => 0)) ((fun _ => 0)) ((fun _ => 0)) 0 ((fun _ => 0)) ((fun _ => 0)) 0 ((fun _ => 0)) ((fun _ => 0)) ((fun _ => 0))) H := hP
    obtain ⟨hI1, hI2, hI3⟩ := hI
    have hx1 := pf_xs_lt i
    have ht1 : t < 256 := by rw [hI1]; exact hx1
    refine lv_iload_n hx hb dX0_init_89 rfl (lv_at hl 2 rfl) ?_
    refine lv_sipush (v := nI 255) hx hb dX0_init_90 (by decide) ?_
    refine na_icmp_ge (tgt := 133) hx hb dX0_init_93 (by decide) (by omega) (by omega) (fun hc9 => absurd hc9 (by omega)) (fun hc => ?_)
    refine lv_aload_n hx hb dX0_init_96 rfl (lv_at hl 0 rfl) ?_
    refine x_get hx hb hts hown hK hP rfl 0 (by decide) q33 rfl rfl dX0_init_97 ?_
    refine lv_iload_n hx hb dX0_init_100 rfl (lv_at hl 2 rfl) ?_
    refine lv_iload_n hx hb dX0_init_101 rfl (lv_at hl 1 rfl) ?_
    refine ra_st (ws' := WX a cI cZ (pa_u f i t) f2 ((fun _ => 0)) ((fun _ => 0)) ((fun _ => 0)) 0 ((fun _ => 0)) ((fun _ => 0)) 0 ((fun _ => 0)) ((fun _ => 0)) ((fun _ => 0))) hx hb hK hP (WX_DA hN hAa) hS 1 0 rfl rfl (by omega) (by decide) dX0_init_102 rfl (fun H locs hP hS => ?_)
    refine lv_aload_n hx hb dX0_init_103 rfl (lv_at hl 0 rfl) ?_
    refine x_get hx hb hts hown hK hP rfl 1 (by decide) q34 rfl rfl dX0_init_104 ?_
    refine lv_iload_n hx hb dX0_init_107 rfl (lv_at hl 1 rfl) ?_
    refine lv_iload_n hx hb dX0_init_108 rfl (lv_at hl 2 rfl) ?_
    refine ra_st (ws' := WX a cI cZ (pa_u f i t) (pa_u f2 t i) ((fun _ => 0)) ((fun _ => 0)) ((fun _ => 0)) 0 ((fun _ => 0)) ((fun _ => 0)) 0 ((fun _ => 0)) ((fun _ => 0)) ((fun _ => 0))) hx hb hK hP (WX_DA hN hAa) hS 2 0 rfl rfl (by omega) (by decide) dX0_init_109 rfl (fun H locs hP hS => ?_)
    refine lv_iload_n hx hb dX0_init_110 rfl (lv_at hl 1 rfl) ?_
    refine lv_iconst (v := nI 1) hx hb dX0_init_111 (by decide) ?_
    refine lv_ishl hx hb dX0_init_112 ?_
    refine pa_top (y := nI (t * 2)) (pk_shlN _ 1 (by decide) (by omega)) ?_
    refine lv_istore_n (lv' := [(1, .int (nI (t * 2))), (0, .ref (a 0)), (2, .int (nI i))]) hx hb dX0_init_113 rfl hl (by decide) rfl (fun ls hl => ?_)
    refine lv_iload_n hx hb dX0_init_114 rfl (lv_at hl 0 rfl) ?_
    refine lv_sipush (v := nI 255) hx hb dX0_init_115 (by decide) ?_
    refine na_icmp_le (tgt := 127) hx hb dX0_init_118 (by decide) (by omega) (by omega) (fun hc => ?_) (fun hc => ?_)
    · skip
      refine na_iinc (lv' := [(2, .int (nI (i + 1))), (1, .int (nI (t * 2))), (0, .ref (a 0))]) hx hb dX0_init_127 hl (k := 2) rfl (by decide) rfl (fun ls hl => ?_)
      refine lv_goto (tgt := 89) hx hb dX0_init_130 (by decide) ?_
      exact ih (t * 2, pa_u f i t, pa_u f2 t i) _ _ _ ⟨by rw [hI1] at hc ⊢; exact (if_neg (by omega)).symm, by rw [hI1, hI2]; rfl, by rw [hI1, hI3]; rfl⟩ (lv_sub hl [2, 1, 0] rfl) hP hS
    · skip
      refine lv_iload_n hx hb dX0_init_121 rfl (lv_at hl 0 rfl) ?_
      refine lv_sipush (v := nI 285) hx hb dX0_init_122 (by decide) ?_
      refine na_xor hx hb dX0_init_125 ?_
      refine lv_istore_n (lv' := [(1, .int (nI ((t * 2) ^^^ 285))), (0, .ref (a 0)), (2, .int (nI i))]) hx hb dX0_init_126 rfl hl (by decide) rfl (fun ls hl => ?_)
      refine na_iinc (lv' := [(2, .int (nI (i + 1))), (1, .int (nI ((t * 2) ^^^ 285))), (0, .ref (a 0))]) hx hb dX0_init_127 hl (k := 2) rfl (by decide) rfl (fun ls hl => ?_)
      refine lv_goto (tgt := 89) hx hb dX0_init_130 (by decide) ?_
      exact ih ((t * 2) ^^^ 285, pa_u f i t, pa_u f2 t i) _ _ _ ⟨by rw [hI1] at hc ⊢; exact (if_pos (by omega)).symm, by rw [hI1, hI2]; rfl, by rw [hI1, hI3]; rfl⟩ (lv_sub hl [2, 1, 0] rfl) hP hS
  · skip
    obtain ⟨t, f, f2⟩ := x
    have hI : t = pf_xs 255 ∧ f = pf_pow 255 ∧ f2 = pf_exp 255 := hI
    have hl : lv_has ls 3 [(0, .ref (a 0)), (1, .int (nI t)), (2, .int (nI 255))] := hl
    have hP : va_P D clA (WX a cI cZ f f2 ((fun _ => 0)) ((fun _ => 0)) ((fun _ => 0)) 0 ((fun _ => 0)) ((fun _ => 0)) 0 ((fun _ => 0)) ((fun _ => 0)) ((fun _ => 0))) H := hP
    obtain ⟨hI1, hI2, hI3⟩ := hI
    refine lv_iload_n hx hb dX0_init_89 rfl (lv_at hl 2 rfl) ?_
    refine lv_sipush (v := nI 255) hx hb dX0_init_90 (by decide) ?_
    refine na_icmp_ge (tgt := 133) hx hb dX0_init_93 (by decide) (by omega) (by omega) (fun hc => ?_) (fun hc9 => absurd hc9 (by omega))
    refine lv_aload_n hx hb dX0_init_133 rfl (lv_at hl 0 rfl) ?_
    refine x_get hx hb hts hown hK hP rfl 0 (by decide) q33 rfl rfl dX0_init_134 ?_
    refine lv_sipush (v := nI 255) hx hb dX0_init_137 (by decide) ?_
    refine lv_iconst (v := nI 1) hx hb dX0_init_140 (by decide) ?_
    refine ra_st (ws' := WX a cI cZ (pa_u f 255 1) f2 ((fun _ => 0)) ((fun _ => 0)) ((fun _ => 0)) 0 ((fun _ => 0)) ((fun _ => 0)) 0 ((fun _ => 0)) ((fun _ => 0)) ((fun _ => 0))) hx hb hK hP (WX_DA hN hAa) hS 1 0 rfl rfl (by omega) (by decide) dX0_init_141 rfl (fun H locs hP hS => ?_)
    have hP : va_P D clA (WX a cI cZ pf_P pf_E ((fun _ => 0)) ((fun _ => 0)) ((fun _ => 0)) 0 ((fun _ => 0)) ((fun _ => 0)) 0 ((fun _ => 0)) ((fun _ => 0)) ((fun _ => 0))) _ := (by rw [hI2, hI3] at hP; exact hP)
    refine lv_iconst (v := nI 0) hx hb dX0_init_142 (by decide) ?_
    refine lv_istore_n (lv' := [(2, .int (nI 0)), (0, .ref (a 0)), (1, .int (nI t))]) hx hb dX0_init_143 rfl hl (by decide) rfl (fun ls hl => ?_)
    refine pa_lpm (nL := 3) (fun b (x : (Nat → Nat) × (Nat → Int32)) => x.1 = pf_pt (fun _ => 0) b ∧ x.2 = pf_c0 b) (fun b (x : (Nat → Nat) × (Nat → Int32)) => [(0, .ref (a 0)), (2, .int (nI b))]) (fun b (x : (Nat → Nat) × (Nat → Int32)) => WX a cI cZ pf_P pf_E ((fun _ => 0)) x.1 x.2 0 ((fun _ => 0)) ((fun _ => 0)) 0 ((fun _ => 0)) ((fun _ => 0)) ((fun _ => 0))) 0 6 (by omega) ((fun _ => 0), (fun _ => 0)) ⟨rfl, rfl⟩ (lv_sub hl [1, 0] rfl) hP hS (fun b x H locs ls hgeL hhiL hIL hl hP hS ihL => ?_) (fun x H locs ls hIL hl hP hS => ?_)
    · skip
      obtain ⟨t4, u4⟩ := x
      have hIL : t4 = pf_pt (fun _ => 0) b ∧ u4 = pf_c0 b := hIL
      have hl : lv_has ls 3 [(0, .ref (a 0)), (2, .int (nI b))] := hl
      have hP : va_P D clA (WX a cI cZ pf_P pf_E ((fun _ => 0)) t4 u4 0 ((fun _ => 0)) ((fun _ => 0)) 0 ((fun _ => 0)) ((fun _ => 0)) ((fun _ => 0))) H := hP
      refine lv_iload_n hx hb dX0_init_144 rfl (lv_at hl 1 rfl) ?_
      refine lv_bipush (v := nI 6) hx hb dX0_init_145 (by decide) ?_
      refine na_icmp_ge (tgt := 174) hx hb dX0_init_147 (by decide) (by omega) (by omega) (fun hc9 => absurd hc9 (by omega)) (fun hc => ?_)
      refine lv_aload_n hx hb dX0_init_150 rfl (lv_at hl 0 rfl) ?_
      refine x_get hx hb hts hown hK hP rfl 3 (by decide) q36 rfl rfl dX0_init_151 ?_
      refine lv_iload_n hx hb dX0_init_154 rfl (lv_at hl 1 rfl) ?_
      refine lv_iconst (v := nI 1) hx hb dX0_init_155 (by decide) ?_
      refine rz_st (ws' := WX a cI cZ pf_P pf_E ((fun _ => 0)) (pa_u t4 b 1) u4 0 ((fun _ => 0)) ((fun _ => 0)) 0 ((fun _ => 0)) ((fun _ => 0)) ((fun _ => 0))) hx hb hK hP (WX_DA hN hAa) hS 4 1 rfl rfl (by omega) (by decide) (by decide) dX0_init_156 rfl (fun H locs hP hS => ?_)
      refine lv_aload_n hx hb dX0_init_157 rfl (lv_at hl 0 rfl) ?_
      refine x_get hx hb hts hown hK hP rfl 4 (by decide) q37 rfl rfl dX0_init_158 ?_
      refine lv_iload_n hx hb dX0_init_161 rfl (lv_at hl 1 rfl) ?_
      refine lv_aload_n hx hb dX0_init_162 rfl (lv_at hl 0 rfl) ?_
      refine lv_iload_n hx hb dX0_init_163 rfl (lv_at hl 1 rfl) ?_
      refine pa_callR (ci := 0) (n := 1) ⟨hx, hb, hml, hown, hts⟩ (m_checkOf l (by omega)) hK hP rfl rfl (lw_V q28 q30 qs0 q18 q31) rfl rfl (by decide +kernel) ⟨by decide, by decide⟩ rfl hl.1 rfl (Nat.le_of_ble_eq_true rfl) dX0_init_164 ⟨Nat.le_refl _, Nat.le_refl _⟩ ?_
      refine rk_st (ws' := WX a cI cZ pf_P pf_E ((fun _ => 0)) (pa_u t4 b 1) (upd u4 b (pf_sum ((fun _ => 0)) b 8)) 0 ((fun _ => 0)) ((fun _ => 0)) 0 ((fun _ => 0)) ((fun _ => 0)) ((fun _ => 0))) hx hb hK hP (WX_DA hN hAa) hS 5 0 rfl rfl (by omega) (by decide) dX0_init_167 rfl (fun H locs hP hS => ?_)
      refine na_iinc (lv' := [(2, .int (nI (b + 1))), (0, .ref (a 0))]) hx hb dX0_init_168 hl (k := 1) rfl (by decide) rfl (fun ls hl => ?_)
      refine lv_goto (tgt := 144) hx hb dX0_init_171 (by decide) ?_
      exact ihL (pa_u t4 b 1, upd u4 b (pf_sum ((fun _ => 0)) b 8)) _ _ _ ⟨by rw [hIL.1]; rfl, by rw [hIL.2]; rfl⟩ (lv_sub hl [1, 0] rfl) hP hS
    · skip
      obtain ⟨t4, u4⟩ := x
      have hIL : t4 = pf_pt (fun _ => 0) 6 ∧ u4 = pf_c0 6 := hIL
      have hl : lv_has ls 3 [(0, .ref (a 0)), (2, .int (nI 6))] := hl
      have hP : va_P D clA (WX a cI cZ pf_P pf_E ((fun _ => 0)) t4 u4 0 ((fun _ => 0)) ((fun _ => 0)) 0 ((fun _ => 0)) ((fun _ => 0)) ((fun _ => 0))) H := hP
      refine lv_iload_n hx hb dX0_init_144 rfl (lv_at hl 1 rfl) ?_
      refine lv_bipush (v := nI 6) hx hb dX0_init_145 (by decide) ?_
      refine na_icmp_ge (tgt := 174) hx hb dX0_init_147 (by decide) (by omega) (by omega) (fun hc => ?_) (fun hc9 => absurd hc9 (by omega))
      exact W.vret hx hb hr (fun t ht hW => ⟨rfl, ⟨a, cI, cZ, ha0, hN, hnew, by rw [ht]; exact (by rw [hIL.1, hIL.2] at hP; exact hP), va_K.moved hW.alike hK⟩, by rw [hAe]; exact hS.F ht⟩) hS.2.2 dX0_init_174 hlk
set_option maxHeartbeats 4000000 in
theorem r_init (l : Launch) {D : va_G} {h sz : Nat} : Met l yX1_init (ws_ yX1_init cX1_init 1 none) ({ frames := 1, cells := 3, slots := 58, locals := 23 } : Room) (PcI D h sz 1 fs0M) (QcI D h sz 1 fs0M 4 (fun a cI cZ => WM a cI cZ (fun _ => 0) (fun _ => 0) 0 (fun _ => 0))) 3 58 (va_A [(h, .inr (1, fs0M))] sz) := by
  refine Met.ofW (cc := cX1_init) (maxL := 1) (ret := none) (by decide) rfl ?_
  intro p e s m args below meth c s₁ B hml hv
  obtain ⟨rfl, hsz, hP, hK⟩ := hv
  have hx := B.exec
  have hb := B.bytes
  have hr := B.returns
  have hlk := B.notSynchronized
  have hts := atoms_spec (ws := ws_ yX1_init cX1_init 1 none) B.pre
  have hts : ∀ w ∈ lw_all, w.before _ s = true := fun w h => hts w (List.mem_cons_of_mem _ h)
  have hown : s.vm.findClass RX1 = some m.cls := findClass_of_methodNamed B.named
  have hin : meth.name = "<init>" := (name_of_methodNamed B.named B.method).1
  subst hsz
  have hD : va_D (va_A [(h, .inr (1, fs0M))] s.heap.size) [(h, .inr (1, fs0M))] := ⟨fun i j x y hi hj _ => by
    have h1 := (List.getElem?_eq_some_iff.mp hi).1
    have h2 := (List.getElem?_eq_some_iff.mp hj).1
    simp at h1 h2
    omega, fun k q hk => va_A.in hk⟩
  have hAx : ∀ q, va_A [(h, .inr (1, fs0M))] s.heap.size q → q = h ∨ s.heap.size ≤ q := fun q hq => by
    rcases hq with ⟨k, e9, h9⟩ | h9
    · match k, h9 with
      | 0, h9 => cases h9; exact Or.inl rfl
      | k + 1, h9 => simp at h9
    · exact Or.inr h9
  have hhl : h < s.heap.size := (hP 0 _ rfl).lt
  have hS : va_S (va_A [(h, .inr (1, fs0M))] s.heap.size) s.heap s.heap [] := va_S.rf
  have hA : ∀ q : Nat, s.heap.size ≤ q → va_A [(h, .inr (1, fs0M))] s.heap.size q := fun q h => Or.inr h
  generalize hAe : va_A [(h, .inr (1, fs0M))] s.heap.size = A at hD hS hA hAx ⊢
  have hl := lv_entry ([.ref h]) (n := 1) (Nat.le_of_ble_eq_true rfl)
  rw [lg_entry_eq]
  generalize (lg_sl ([.ref h]) ++ List.replicate (1 - (lg_sl ([.ref h])).length) Slot.unset).toArray = ls at hl ⊢
  have hl : lv_has ls 1 [(0, .ref h)] := hl
  refine lv_aload_n hx hb dX1_init_0 rfl (lv_at hl 0 rfl) ?_
  refine W.objInit hx hb hown (hts _ q183) (hts _ q26) (hts _ q27) rfl (by rw [hml]; exact hl.1) rfl dX1_init_1 (Nat.le_of_ble_eq_true rfl) (Nat.le_of_ble_eq_true rfl) ?_
  refine W.eq (g2 := F0 m 4 ls []) rfl ?_
  refine lv_aload_n hx hb dX1_init_4 rfl (lv_at hl 0 rfl) ?_
  refine lv_bipush (v := nI 48) hx hb dX1_init_5 (by decide) ?_
  refine va_newa hx hb (atype := .int) (ty := .int) (a0 := (48, .inl (pa_a (fun _ => 0)))) (hts _ q70) rfl hK hP hD hS hA (fun _ => rfl) (nI_pos (by decide)) (nI_clamp (by decide)) (by decide) (Nat.le_of_ble_eq_true rfl) (Nat.le_of_ble_eq_true rfl) dX1_init_7 (fun q1 cI H hK hP hD hS => ?_)
  have hK : va_K D clA [(cI, .int)] s := hK
  have hP : va_P D clA [(h, .inr (1, [.null, .null, .int 0, .null])), (q1, .inl (cI, 48, .inl (pa_a (fun _ => 0))))] H := hP
  have hD : va_D A [(h, .inr (1, [.null, .null, .int 0, .null])), (q1, .inl (cI, 48, .inl (pa_a (fun _ => 0))))] := hD
  refine W.widen (k := 1) (n := 48) (by decide) (by decide) ?_
  refine va_putF (ci := 1) (v := .ref q1) (ty := .array .int) (C := RX1) (T := TX1) (N := 4) hx hb hts in_X1 tyX1 tyX1_ok nmX1 hown hK hP hD hS 0 rfl rfl 0 (by decide) (hts _ q184) (fun _ h9 => h9) rfl hin rfl (by decide +kernel) rfl rfl (Nat.le_of_ble_eq_true rfl) dX1_init_9 (fun H locs hP hD hS => ?_)
  have hP : va_P D clA [(h, .inr (1, [.ref q1, .null, .int 0, .null])), (q1, .inl (cI, 48, .inl (pa_a (fun _ => 0))))] H := hP
  have hD : va_D A [(h, .inr (1, [.ref q1, .null, .int 0, .null])), (q1, .inl (cI, 48, .inl (pa_a (fun _ => 0))))] := hD
  refine lv_aload_n hx hb dX1_init_12 rfl (lv_at hl 0 rfl) ?_
  refine lv_bipush (v := nI 6) hx hb dX1_init_13 (by decide) ?_
  refine pa_newI (a0 := (6, .inl (pa_a (fun _ => 0)))) hx hb (hts _ q70) hK hP hD hS hA 0 rfl (fun _ => rfl) (by decide) (Nat.le_of_ble_eq_true rfl) (Nat.le_of_ble_eq_true rfl) dX1_init_15 (fun q2 H hP hD hS => ?_)
  have hP : va_P D clA [(h, .inr (1, [.ref q1, .null, .int 0, .null])), (q1, .inl (cI, 48, .inl (pa_a (fun _ => 0)))), (q2, .inl (cI, 6, .inl (pa_a (fun _ => 0))))] H := hP
  have hD : va_D A [(h, .inr (1, [.ref q1, .null, .int 0, .null])), (q1, .inl (cI, 48, .inl (pa_a (fun _ => 0)))), (q2, .inl (cI, 6, .inl (pa_a (fun _ => 0))))] := hD
  refine W.widen (k := 2) (n := 54) (by decide) (by decide) ?_
  refine va_putF (ci := 1) (v := .ref q2) (ty := .array .int) (C := RX1) (T := TX1) (N := 4) hx hb hts in_X1 tyX1 tyX1_ok nmX1 hown hK hP hD hS 0 rfl rfl 1 (by decide) (hts _ q185) (fun _ h9 => h9) rfl hin rfl (by decide +kernel) rfl rfl (Nat.le_of_ble_eq_true rfl) dX1_init_17 (fun H locs hP hD hS => ?_)
  have hP : va_P D clA [(h, .inr (1, [.ref q1, .ref q2, .int 0, .null])), (q1, .inl (cI, 48, .inl (pa_a (fun _ => 0)))), (q2, .inl (cI, 6, .inl (pa_a (fun _ => 0))))] H := hP
  have hD : va_D A [(h, .inr (1, [.ref q1, .ref q2, .int 0, .null])), (q1, .inl (cI, 48, .inl (pa_a (fun _ => 0)))), (q2, .inl (cI, 6, .inl (pa_a (fun _ => 0))))] := hD
  refine lv_aload_n hx hb dX1_init_20 rfl (lv_at hl 0 rfl) ?_
  refine lv_iconst (v := nI 4) hx hb dX1_init_21 (by decide) ?_
  refine va_newa hx hb (atype := .boolean) (ty := .boolean) (a0 := (4, .inl (pa_a (fun _ => 0)))) (hts _ q71) rfl hK hP hD hS hA (fun _ => rfl) (nI_pos (by decide)) (nI_clamp (by decide)) (by decide) (Nat.le_of_ble_eq_true rfl) (Nat.le_of_ble_eq_true rfl) dX1_init_22 (fun q3 cZ H hK hP hD hS => ?_)
  have hK : va_K D clA [(cI, .int), (cZ, .boolean)] s := hK
  have hP : va_P D clA [(h, .inr (1, [.ref q1, .ref q2, .int 0, .null])), (q1, .inl (cI, 48, .inl (pa_a (fun _ => 0)))), (q2, .inl (cI, 6, .inl (pa_a (fun _ => 0)))), (q3, .inl (cZ, 4, .inl (pa_a (fun _ => 0))))] H := hP
  have hD : va_D A [(h, .inr (1, [.ref q1, .ref q2, .int 0, .null])), (q1, .inl (cI, 48, .inl (pa_a (fun _ => 0)))), (q2, .inl (cI, 6, .inl (pa_a (fun _ => 0)))), (q3, .inl (cZ, 4, .inl (pa_a (fun _ => 0))))] := hD
  refine W.widen (k := 3) (n := 58) (by decide) (by decide) ?_
  refine va_putF (ci := 1) (v := .ref q3) (ty := .array .boolean) (C := RX1) (T := TX1) (N := 4) hx hb hts in_X1 tyX1 tyX1_ok nmX1 hown hK hP hD hS 0 rfl rfl 3 (by decide) (hts _ q187) (fun _ h9 => h9) rfl hin rfl (by decide +kernel) rfl rfl (Nat.le_of_ble_eq_true rfl) dX1_init_24 (fun H locs hP hD hS => ?_)
  have hP : va_P D clA [(h, .inr (1, [.ref q1, .ref q2, .int 0, .ref q3])), (q1, .inl (cI, 48, .inl (pa_a (fun _ => 0)))), (q2, .inl (cI, 6, .inl (pa_a (fun _ => 0)))), (q3, .inl (cZ, 4, .inl (pa_a (fun _ => 0))))] H := hP
  have hD : va_D A [(h, .inr (1, [.ref q1, .ref q2, .int 0, .ref q3])), (q1, .inl (cI, 48, .inl (pa_a (fun _ => 0)))), (q2, .inl (cI, 6, .inl (pa_a (fun _ => 0)))), (q3, .inl (cZ, 4, .inl (pa_a (fun _ => 0))))] := hD
  have hP : va_P D clA (WM (pa_l [h, q1, q2, q3]) cI cZ ((fun _ => 0)) ((fun _ => 0)) 0 ((fun _ => 0))) H := hP
  have hD : va_D A (WM (pa_l [h, q1, q2, q3]) cI cZ ((fun _ => 0)) ((fun _ => 0)) 0 ((fun _ => 0))) := hD
  have hl : lv_has ls 1 [(0, .ref ((pa_l [h, q1, q2, q3]) 0))] := hl
  have ha0 : (pa_l [h, q1, q2, q3]) 0 = h := rfl
  generalize (pa_l [h, q1, q2, q3]) = a at hP hD hl ha0
  obtain ⟨hN, hAa⟩ := pa_N_of (n := 4) (a := a) hD rfl
  have hnew : ∀ k, 0 < k → k < 4 → s.heap.size ≤ a k := fun k h1 h2 => by
    rcases hAx _ (hAa k h2) with h3 | h3
    · exact absurd (hN k 0 h2 (by decide) (by rw [h3, ha0])) (by omega)
    · exact h3
  exact W.vret hx hb hr (fun t ht hW => ⟨rfl, ⟨a, cI, cZ, ha0, hN, hnew, by rw [ht]; exact hP, va_K.moved hW.alike hK⟩, by rw [hAe]; exact hS.F ht⟩) hS.2.2 dX1_init_27 hlk
end
section
/-! ===== the field of 256 elements ===== -/
def pg_xt (y : Nat) : Nat := if 255 < y * 2 then (y * 2) ^^^ 285 else y * 2
def pg_tP : List Nat := [1, 2, 4, 8, 16, 32, 64, 128, 29, 58, 116, 232, 205, 135, 19, 38, 76, 152, 45, 90, 180, 117, 234, 201, 143, 3, 6, 12, 24, 48, 96, 192, 157, 39, 78, 156, 37, 74, 148, 53, 106, 212, 181, 119, 238, 193, 159, 35, 70, 140, 5, 10, 20, 40, 80, 160, 93, 186, 105, 210, 185, 111, 222, 161, 95, 190, 97, 194, 153, 47, 94, 188, 101, 202, 137, 15, 30, 60, 120, 240, 253, 231, 211, 187, 107, 214, 177, 127, 254, 225, 223, 163, 91, 182, 113, 226, 217, 175, 67, 134, 17, 34, 68, 136, 13, 26, 52, 104, 208, 189, 103, 206, 129, 31, 62, 124, 248, 237, 199, 147, 59, 118, 236, 197, 151, 51, 102, 204, 133, 23, 46, 92, 184, 109, 218, 169, 79, 158, 33, 66, 132, 21, 42, 84, 168, 77, 154, 41, 82, 164, 85, 170, 73, 146, 57, 114, 228, 213, 183, 115, 230, 209, 191, 99, 198, 145, 63, 126, 252, 229, 215, 179, 123, 246, 241, 255, 227, 219, 171, 75, 150, 49, 98, 196, 149, 55, 110, 220, 165, 87, 174, 65, 130, 25, 50, 100, 200, 141, 7, 14, 28, 56, 112, 224, 221, 167, 83, 166, 81, 162, 89, 178, 121, 242, 249, 239, 195, 155, 43, 86, 172, 69, 138, 9, 18, 36, 72, 144, 61, 122, 244, 245, 247, 243, 251, 235, 203, 139, 11, 22, 44, 88, 176, 125, 250, 233, 207, 131, 27, 54, 108, 216, 173, 71, 142, 1]
def pg_tE : List Nat := [0, 0, 1, 25, 2, 50, 26, 198, 3, 223, 51, 238, 27, 104, 199, 75, 4, 100, 224, 14, 52, 141, 239, 129, 28, 193, 105, 248, 200, 8, 76, 113, 5, 138, 101, 47, 225, 36, 15, 33, 53, 147, 142, 218, 240, 18, 130, 69, 29, 181, 194, 125, 106, 39, 249, 185, 201, 154, 9, 120, 77, 228, 114, 166, 6, 191, 139, 98, 102, 221, 48, 253, 226, 152, 37, 179, 16, 145, 34, 136, 54, 208, 148, 206, 143, 150, 219, 189, 241, 210, 19, 92, 131, 56, 70, 64, 30, 66, 182, 163, 195, 72, 126, 110, 107, 58, 40, 84, 250, 133, 186, 61, 202, 94, 155, 159, 10, 21, 121, 43, 78, 212, 229, 172, 115, 243, 167, 87, 7, 112, 192, 247, 140, 128, 99, 13, 103, 74, 222, 237, 49, 197, 254, 24, 227, 165, 153, 119, 38, 184, 180, 124, 17, 68, 146, 217, 35, 32, 137, 46, 55, 63, 209, 91, 149, 188, 207, 205, 144, 135, 151, 178, 220, 252, 190, 97, 242, 86, 211, 171, 20, 42, 93, 158, 132, 60, 57, 83, 71, 109, 65, 162, 31, 45, 67, 216, 183, 123, 164, 118, 196, 23, 73, 236, 127, 12, 111, 246, 108, 161, 59, 82, 41, 157, 85, 170, 251, 96, 134, 177, 187, 204, 62, 90, 203, 89, 95, 176, 156, 169, 160, 81, 11, 245, 22, 235, 122, 117, 44, 215, 79, 174, 213, 233, 230, 231, 173, 232, 116, 214, 244, 234, 168, 80, 88, 175]
def pg_p (k : Nat) : Nat := pg_tP.getD k 0
def pg_e (x : Nat) : Nat := pg_tE.getD x 0
theorem pg_f1 : ∀ k, k < 255 → pg_xt (pg_p k) = pg_p (k + 1) := by decide +kernel
theorem pg_f2 : ∀ k, k < 255 → pg_e (pg_p k) = k := by decide +kernel
theorem pg_f3 : ∀ x, x < 256 → x ≠ 0 → pg_e x < 255 ∧ pg_p (pg_e x) = x := by decide +kernel
theorem pg_f4 : ∀ k, k < 255 → pg_p k ≠ 0 := by decide +kernel
theorem pg_xs_p : ∀ k, k ≤ 255 → pf_xs k = pg_p k
  | 0, _ => by decide +kernel
  | k + 1, h => by
    have h1 : pf_xs (k + 1) = pg_xt (pf_xs k) := rfl
    rw [h1, pg_xs_p k (by omega)]
    exact pg_f1 k (by omega)
theorem pg_xt_lt {y : Nat} (h : y < 256) : pg_xt y < 256 := pf_xs_step y h
set_option maxRecDepth 100000 in
theorem pg_xt_xor : ∀ a, a < 256 → ∀ b, b < 256 → pg_xt (a ^^^ b) = pg_xt a ^^^ pg_xt b := by decide +kernel
def pg_it : Nat → Nat → Nat
  | 0, y => y
  | k + 1, y => pg_xt (pg_it k y)
theorem pg_it_lt {y : Nat} (h : y < 256) : ∀ k, pg_it k y < 256
  | 0 => h
  | k + 1 => pg_xt_lt (pg_it_lt h k)
theorem pg_it_xor {a b : Nat} (ha : a < 256) (hb : b < 256) : ∀ k, pg_it k (a ^^^ b) = pg_it k a ^^^ pg_it k b
  | 0 => rfl
  | k + 1 => by
    show pg_xt _ = pg_xt _ ^^^ pg_xt _
    rw [pg_it_xor ha hb k]
    exact pg_xt_xor _ (pg_it_lt ha k) _ (pg_it_lt hb k)
theorem pg_it_0 : ∀ k, pg_it k 0 = 0
  | 0 => rfl
  | k + 1 => by
    show pg_xt (pg_it k 0) = 0
    rw [pg_it_0 k]
    decide
theorem pg_it_add (y k : Nat) : ∀ j, pg_it (j + k) y = pg_it j (pg_it k y)
  | 0 => by rw [Nat.zero_add]; rfl
  | j + 1 => by
    rw [show j + 1 + k = (j + k) + 1 by omega]
    show pg_xt (pg_it (j + k) y) = pg_xt (pg_it j (pg_it k y))
    rw [pg_it_add y k j]
theorem pg_xs_it : ∀ k, pf_xs k = pg_it k 1
  | 0 => rfl
  | k + 1 => by
    show pg_xt (pf_xs k) = pg_xt (pg_it k 1)
    rw [pg_xs_it k]
theorem pg_xs_add (j k : Nat) : pf_xs (j + k) = pg_it j (pf_xs k) := by
  rw [pg_xs_it, pg_xs_it, pg_it_add]
theorem pg_per1 (k : Nat) : pf_xs (k + 255) = pf_xs k := by
  rw [pg_xs_add, pg_xs_p 255 (Nat.le_refl _), show pg_p 255 = 1 by decide +kernel, pg_xs_it]
theorem pg_per (k : Nat) : ∀ n, pf_xs (k + 255 * n) = pf_xs k
  | 0 => rfl
  | n + 1 => by
    rw [show k + 255 * (n + 1) = (k + 255 * n) + 255 by omega, pg_per1, pg_per k n]
theorem pg_mod (k c : Nat) : pf_xs (k % 255 + c) = pf_xs (k + c) := by
  have h := Nat.mod_add_div k 255
  rw [show k + c = (k % 255 + c) + 255 * (k / 255) by omega, pg_per]
theorem pg_mod0 (k : Nat) : pf_xs (k % 255) = pf_xs k := pg_mod k 0
theorem pg_inj {i j : Nat} (hi : i < 255) (hj : j < 255) (h : pf_xs i = pf_xs j) : i = j := by
  rw [pg_xs_p i (by omega), pg_xs_p j (by omega)] at h
  have h1 := pg_f2 i hi
  rw [h, pg_f2 j hj] at h1
  exact h1.symm
theorem pg_pow : ∀ n j, j < n → pf_pow n j = pf_xs j
  | 0, j, h => absurd h (by omega)
  | n + 1, j, h => by
    show pa_u (pf_pow n) n (pf_xs n) j = _
    by_cases e : j = n
    · subst e; exact pa_us
    · rw [pa_un e]; exact pg_pow n j (by omega)
theorem pg_P {j : Nat} (h : j < 255) : pf_P j = pf_xs j := by
  show pa_u (pf_pow 255) 255 1 j = _
  rw [pa_un (by omega)]
  exact pg_pow 255 j h
theorem pg_exp : ∀ n, n ≤ 255 → ∀ k, k < n → pf_exp n (pf_xs k) = k
  | 0, _, k, h => absurd h (by omega)
  | n + 1, hn, k, h => by
    show pa_u (pf_exp n) (pf_xs n) n (pf_xs k) = k
    by_cases e : k = n
    · subst e; exact pa_us
    · rw [pa_un (fun q => e (pg_inj (by omega) (by omega) q))]
      exact pg_exp n (by omega) k (by omega)
theorem pg_E {k : Nat} (h : k < 255) : pf_E (pf_xs k) = k := pg_exp 255 (Nat.le_refl _) k h
theorem pg_log {x : Nat} (h : x < 256) (h0 : x ≠ 0) : pf_E x < 255 ∧ pf_xs (pf_E x) = x ∧ pf_E x = pg_e x := by
  obtain ⟨h1, h2⟩ := pg_f3 x h h0
  rw [← pg_xs_p _ (by omega)] at h2
  have h3 : pf_E x = pg_e x := by
    have h4 := pg_E h1
    rw [h2] at h4
    exact h4
  rw [h3]
  exact ⟨h1, h2, rfl⟩
theorem pg_xs0 (k : Nat) : pf_xs k ≠ 0 := by
  rw [← pg_mod0]
  have h := Nat.mod_lt k (show 0 < 255 by decide)
  rw [pg_xs_p _ (by omega)]
  exact pg_f4 _ h
theorem pg_m0 (y : Nat) : pf_mul 0 y = 0 := if_pos rfl
theorem pg_m0r (x : Nat) : pf_mul x 0 = 0 := by
  unfold pf_mul
  split
  · rfl
  · exact if_pos rfl
theorem pg_mul_xs {x y : Nat} (hx : x < 256) (hy : y < 256) (hx0 : x ≠ 0) (hy0 : y ≠ 0) : pf_mul x y = pf_xs (pf_E x + pf_E y) := by
  unfold pf_mul
  rw [if_neg hx0, if_neg hy0, pg_P (Nat.mod_lt _ (by decide)), pg_mod0]
theorem pg_mul_it {x y : Nat} (hx : x < 256) (hy : y < 256) (hx0 : x ≠ 0) : pf_mul x y = pg_it (pf_E x) y := by
  by_cases hy0 : y = 0
  · rw [hy0, pg_m0r, pg_it_0]
  · rw [pg_mul_xs hx hy hx0 hy0, pg_xs_add, (pg_log hy hy0).2.1]
theorem pg_mul_xor {x a b : Nat} (hx : x < 256) (ha : a < 256) (hb : b < 256) : pf_mul x (a ^^^ b) = pf_mul x a ^^^ pf_mul x b := by
  by_cases hx0 : x = 0
  · rw [hx0, pg_m0, pg_m0, pg_m0]; rfl
  · rw [pg_mul_it hx (pf_xor_lt ha hb) hx0, pg_mul_it hx ha hx0, pg_mul_it hx hb hx0, pg_it_xor ha hb]
theorem pg_mul_comm {x y : Nat} : pf_mul x y = pf_mul y x := by
  unfold pf_mul
  by_cases hx : x = 0
  · by_cases hy : y = 0
    · rw [if_pos hx, if_pos hy]
    · rw [if_pos hx, if_neg hy, if_pos hx]
  · by_cases hy : y = 0
    · rw [if_neg hx, if_pos hy, if_pos hy]
    · rw [if_neg hx, if_neg hy, if_neg hy, if_neg hx, Nat.add_comm]
theorem pg_xor_mul {x a b : Nat} (hx : x < 256) (ha : a < 256) (hb : b < 256) : pf_mul (a ^^^ b) x = pf_mul a x ^^^ pf_mul b x := by
  rw [pg_mul_comm, pg_mul_xor hx ha hb, pg_mul_comm, pg_mul_comm (x := x) (y := b)]
theorem pg_assoc {x y z : Nat} (hx : x < 256) (hy : y < 256) (hz : z < 256) : pf_mul (pf_mul x y) z = pf_mul x (pf_mul y z) := by
  by_cases hx0 : x = 0
  · rw [hx0, pg_m0, pg_m0, pg_m0]
  by_cases hy0 : y = 0
  · rw [hy0, pg_m0r, pg_m0, pg_m0r]
  by_cases hz0 : z = 0
  · rw [hz0, pg_m0r, pg_m0r, pg_m0r]
  have e1 := pg_mul_xs hx hy hx0 hy0
  have n1 : pf_mul x y ≠ 0 := by rw [e1]; exact pg_xs0 _
  have e2 : pf_E (pf_mul x y) = (pf_E x + pf_E y) % 255 := by
    rw [e1, ← pg_mod0]; exact pg_E (Nat.mod_lt _ (by decide))
  have e3 := pg_mul_xs hy hz hy0 hz0
  have n3 : pf_mul y z ≠ 0 := by rw [e3]; exact pg_xs0 _
  have e4 : pf_E (pf_mul y z) = (pf_E y + pf_E z) % 255 := by
    rw [e3, ← pg_mod0]; exact pg_E (Nat.mod_lt _ (by decide))
  rw [pg_mul_xs (pf_mul_lt _ _) hz n1 hz0, pg_mul_xs hx (pf_mul_lt _ _) hx0 n3, e2, e4, pg_mod, Nat.add_comm (pf_E x) ((pf_E y + pf_E z) % 255), pg_mod]
  congr 1
  omega
theorem pg_one {x : Nat} (hx : x < 256) : pf_mul 1 x = x := by
  have e : pf_E 1 = 0 := pg_E (k := 0) (by decide)
  rw [pg_mul_it (by decide) hx (by decide), e]
  rfl
theorem pg_one' {x : Nat} (hx : x < 256) : pf_mul x 1 = x := by rw [pg_mul_comm, pg_one hx]
theorem pg_inv {x : Nat} (hx : x < 256) (h0 : x ≠ 0) : pf_mul (pf_inv x) x = 1 := by
  obtain ⟨h1, h2, -⟩ := pg_log hx h0
  have e1 : pf_inv x = pf_xs (255 - pf_E x) := by
    unfold pf_inv
    rw [pg_P (Nat.mod_lt _ (by decide)), pg_mod0]
  have n1 : pf_inv x ≠ 0 := by rw [e1]; exact pg_xs0 _
  have e2 : pf_E (pf_inv x) = (255 - pf_E x) % 255 := by
    rw [e1, ← pg_mod0]; exact pg_E (Nat.mod_lt _ (by decide))
  rw [pg_mul_xs (pf_inv_lt _) hx n1 h0, e2, pg_mod, show 255 - pf_E x + pf_E x = 255 by omega, pg_xs_p 255 (Nat.le_refl _)]
  decide +kernel
/-! by tables, to be counted out -/
def pg_mulT (x y : Nat) : Nat := if x = 0 then 0 else if y = 0 then 0 else pg_p ((pg_e x + pg_e y) % 255)
def pg_invT (x : Nat) : Nat := pg_p ((255 - pg_e x) % 255)
theorem pg_mul_T {x y : Nat} (hx : x < 256) (hy : y < 256) : pf_mul x y = pg_mulT x y := by
  unfold pf_mul pg_mulT
  by_cases hx0 : x = 0
  · rw [if_pos hx0, if_pos hx0]
  by_cases hy0 : y = 0
  · rw [if_neg hx0, if_neg hx0, if_pos hy0, if_pos hy0]
  have hm := Nat.mod_lt (pf_E x + pf_E y) (show 0 < 255 by decide)
  rw [if_neg hx0, if_neg hx0, if_neg hy0, if_neg hy0, pg_P hm, pg_xs_p _ (by omega), (pg_log hx hx0).2.2, (pg_log hy hy0).2.2]
theorem pg_inv_T {x : Nat} (hx : x < 256) (h0 : x ≠ 0) : pf_inv x = pg_invT x := by
  unfold pf_inv pg_invT
  have hm := Nat.mod_lt (255 - pf_E x) (show 0 < 255 by decide)
  rw [pg_P hm, pg_xs_p _ (by omega), (pg_log hx h0).2.2]
end
section
/-! ===== elimination: what it does to a system of equations ===== -/
theorem pe_ea {k v : Nat} {eq : Nat → Nat} : ∀ n, n ≤ 12 → ∀ g j, j < 12 → pf_ea k v eq n (g * 12 + j) = if g = k ∧ j < n then pf_mul v (eq (g * 12 + j)) else eq (g * 12 + j)
  | 0, _, g, j, _ => by
    rw [if_neg (by omega)]; rfl
  | n + 1, hn, g, j, hj => by
    show pa_u (pf_ea k v eq n) (k * 12 + n) (pf_mul v (pf_ea k v eq n (k * 12 + n))) (g * 12 + j) = _
    by_cases e : g = k ∧ j = n
    · obtain ⟨rfl, rfl⟩ := e
      rw [pa_us, if_pos ⟨rfl, by omega⟩, pe_ea j (by omega) g j hj, if_neg (by omega)]
    · rw [pa_un (by omega), pe_ea n (by omega) g j hj]
      by_cases h : g = k ∧ j < n
      · rw [if_pos h, if_pos ⟨h.1, by omega⟩]
      · rw [if_neg h, if_neg (by omega)]
theorem pe_er {k g f : Nat} {eq : Nat → Nat} (hg : g ≠ k) : ∀ n, n ≤ 12 → ∀ g' j, j < 12 → pf_er k g f eq n (g' * 12 + j) = if g' = g ∧ j < n then eq (g' * 12 + j) ^^^ pf_mul f (eq (k * 12 + j)) else eq (g' * 12 + j)
  | 0, _, g', j, _ => by
    rw [if_neg (by omega)]; rfl
  | n + 1, hn, g', j, hj => by
    show pa_u (pf_er k g f eq n) (g * 12 + n) (pf_er k g f eq n (g * 12 + n) ^^^ pf_mul f (pf_er k g f eq n (k * 12 + n))) (g' * 12 + j) = _
    by_cases e : g' = g ∧ j = n
    · obtain ⟨rfl, rfl⟩ := e
      rw [pa_us, if_pos ⟨rfl, by omega⟩, pe_er hg j (by omega) g' j hj, if_neg (by omega), pe_er hg j (by omega) k j hj, if_neg (by omega)]
    · rw [pa_un (by omega), pe_er hg n (by omega) g' j hj]
      by_cases h : g' = g ∧ j < n
      · rw [if_pos h, if_pos ⟨h.1, by omega⟩]
      · rw [if_neg h, if_neg (by omega)]
theorem pe_eg {ms k : Nat} {eq : Nat → Nat} (hms : ms ≤ 4) (hk : k < ms) : ∀ n, ∀ g j, j < 12 → pf_eg ms k eq n (g * 12 + j) = if g < n ∧ g ≠ k ∧ j < ms + 8 then eq (g * 12 + j) ^^^ pf_mul (eq (g * 12 + k)) (eq (k * 12 + j)) else eq (g * 12 + j)
  | 0, g, j, _ => by
    rw [if_neg (by omega)]; rfl
  | n + 1, g, j, hj => by
    have hd : pf_eg ms k eq (n + 1) = if n = k then pf_eg ms k eq n else pf_er k n (pf_eg ms k eq n (n * 12 + k)) (pf_eg ms k eq n) (ms + 8) := rfl
    rw [hd]
    by_cases e : n = k
    · rw [if_pos e, pe_eg hms hk n g j hj]
      by_cases h : g < n ∧ g ≠ k ∧ j < ms + 8
      · rw [if_pos h, if_pos ⟨by omega, h.2⟩]
      · rw [if_neg h, if_neg (by omega)]
    · rw [if_neg e, pe_er e (ms + 8) (by omega) g j hj]
      by_cases h : g = n ∧ j < ms + 8
      · obtain ⟨rfl, h2⟩ := h
        rw [if_pos ⟨rfl, h2⟩, if_pos ⟨by omega, e, h2⟩, pe_eg hms hk g g j hj, if_neg (by omega), pe_eg hms hk g g k (by omega), if_neg (by omega), pe_eg hms hk g k j hj, if_neg (by omega)]
      · rw [if_neg h, pe_eg hms hk n g j hj]
        by_cases h2 : g < n ∧ g ≠ k ∧ j < ms + 8
        · rw [if_pos h2, if_pos ⟨by omega, h2.2⟩]
        · rw [if_neg h2, if_neg (by omega)]
/-- the row that is scaled, and another -/
theorem pe_elk {ms k : Nat} {eq : Nat → Nat} (hms : ms ≤ 4) (hk : k < ms) {j : Nat} (hj : j < ms + 8) : pf_el ms k eq (k * 12 + j) = pf_mul (pf_inv (eq (k * 12 + k))) (eq (k * 12 + j)) := by
  unfold pf_el
  rw [pe_eg hms hk ms k j (by omega), if_neg (by omega), pe_ea (ms + 8) (by omega) k j (by omega), if_pos ⟨rfl, hj⟩]
theorem pe_elg {ms k : Nat} {eq : Nat → Nat} (hms : ms ≤ 4) (hk : k < ms) {g j : Nat} (hg : g < ms) (hgk : g ≠ k) (hj : j < ms + 8) : pf_el ms k eq (g * 12 + j) = eq (g * 12 + j) ^^^ pf_mul (eq (g * 12 + k)) (pf_mul (pf_inv (eq (k * 12 + k))) (eq (k * 12 + j))) := by
  unfold pf_el
  rw [pe_eg hms hk ms g j (by omega), if_pos ⟨hg, hgk, hj⟩, pe_ea (ms + 8) (by omega) g j (by omega), if_neg (by omega), pe_ea (ms + 8) (by omega) g k (by omega), if_neg (by omega), pe_ea (ms + 8) (by omega) k j (by omega), if_pos ⟨rfl, hj⟩]
/-- sums in the field -/
def pe_s (f : Nat → Nat) : Nat → Nat
  | 0 => 0
  | n + 1 => pe_s f n ^^^ f n
theorem pe_s_lt {f : Nat → Nat} (h : ∀ j, f j < 256) : ∀ n, pe_s f n < 256
  | 0 => by show 0 < 256; decide
  | n + 1 => pf_xor_lt (pe_s_lt h n) (h n)
theorem pe_s_congr {f g : Nat → Nat} : ∀ n, (∀ j, j < n → f j = g j) → pe_s f n = pe_s g n
  | 0, _ => rfl
  | n + 1, h => by
    show pe_s f n ^^^ f n = pe_s g n ^^^ g n
    rw [pe_s_congr n (fun j hj => h j (by omega)), h n (by omega)]
theorem pe_x4 (a b c d : Nat) : (a ^^^ b) ^^^ (c ^^^ d) = (a ^^^ c) ^^^ (b ^^^ d) := by
  rw [Nat.xor_assoc, ← Nat.xor_assoc b c d, Nat.xor_comm b c, Nat.xor_assoc c b d, ← Nat.xor_assoc]
theorem pe_s_xor (f g : Nat → Nat) : ∀ n, pe_s (fun j => f j ^^^ g j) n = pe_s f n ^^^ pe_s g n
  | 0 => by show 0 = 0 ^^^ 0; decide
  | n + 1 => by
    show pe_s (fun j => f j ^^^ g j) n ^^^ (f n ^^^ g n) = _
    rw [pe_s_xor f g n]
    exact pe_x4 _ _ _ _
theorem pe_s_mul {v : Nat} {f : Nat → Nat} (hv : v < 256) (h : ∀ j, f j < 256) : ∀ n, pe_s (fun j => pf_mul v (f j)) n = pf_mul v (pe_s f n)
  | 0 => (pg_m0r v).symm
  | n + 1 => by
    show pe_s (fun j => pf_mul v (f j)) n ^^^ pf_mul v (f n) = pf_mul v (pe_s f n ^^^ f n)
    rw [pe_s_mul hv h n, pg_mul_xor hv (pe_s_lt h n) (h n)]
/-- a sum of which one term alone isn't 0 -/
theorem pe_s_one {f : Nat → Nat} {g : Nat} : ∀ n, (∀ j, j < n → j ≠ g → f j = 0) → pe_s f n = if g < n then f g else 0
  | 0, _ => by rw [if_neg (by omega)]; rfl
  | n + 1, h => by
    show pe_s f n ^^^ f n = _
    rw [pe_s_one n (fun j hj hg => h j (by omega) hg)]
    by_cases e : n = g
    · subst e
      rw [if_neg (by omega), if_pos (by omega), Nat.zero_xor]
    · rw [h n (by omega) e, Nat.xor_zero]
      by_cases h2 : g < n
      · rw [if_pos h2, if_pos (by omega)]
      · rw [if_neg h2, if_neg (by omega)]
/-- X solves the system at the right side's place i -/
def pe_Sol (ms : Nat) (eq : Nat → Nat) (X : Nat → Nat) (i : Nat) : Prop := ∀ g, g < ms → pe_s (fun j => pf_mul (eq (g * 12 + j)) (X j)) ms = eq (g * 12 + (ms + i))
theorem pe_step {ms k : Nat} {eq X : Nat → Nat} {i : Nat} (hms : ms ≤ 4) (hk : k < ms) (hi : i < 8) (he : ∀ j, eq j < 256) (hX : ∀ j, X j < 256) (h : pe_Sol ms eq X i) : pe_Sol ms (pf_el ms k eq) X i := by
  have hR : pe_s (fun j => pf_mul (pf_mul (pf_inv (eq (k * 12 + k))) (eq (k * 12 + j))) (X j)) ms = pf_mul (pf_inv (eq (k * 12 + k))) (eq (k * 12 + (ms + i))) := by
    rw [← h k hk, ← pe_s_mul (pf_inv_lt _) (fun j => pf_mul_lt _ _)]
    exact pe_s_congr ms (fun j hj => pg_assoc (pf_inv_lt _) (he _) (hX _))
  intro g hg
  by_cases e : g = k
  · subst e
    rw [pe_elk hms hk (show ms + i < ms + 8 by omega), ← hR]
    exact pe_s_congr ms (fun j hj => by rw [pe_elk hms hk (show j < ms + 8 by omega)])
  · rw [pe_elg hms hk hg e (show ms + i < ms + 8 by omega), ← hR, ← h g hg, ← pe_s_mul (he _) (fun j => pf_mul_lt _ _), ← pe_s_xor]
    refine pe_s_congr ms (fun j hj => ?_)
    rw [pe_elg hms hk hg e (show j < ms + 8 by omega), pg_xor_mul (hX _) (he _) (pf_mul_lt _ _), pg_assoc (he _) (pf_mul_lt _ _) (hX _)]
/-- the first k columns are those of 1 -/
def pe_U (ms : Nat) (eq : Nat → Nat) (k : Nat) : Prop := ∀ c, c < k → ∀ g, g < ms → eq (g * 12 + c) = if g = c then 1 else 0
theorem pe_unit {ms k : Nat} {eq : Nat → Nat} (hms : ms ≤ 4) (hk : k < ms) (he : ∀ j, eq j < 256) (hp : eq (k * 12 + k) ≠ 0) (h : pe_U ms eq k) : pe_U ms (pf_el ms k eq) (k + 1) := by
  intro c hc g hg
  by_cases ec : c = k
  · subst ec
    have h1 : pf_mul (pf_inv (eq (c * 12 + c))) (eq (c * 12 + c)) = 1 := pg_inv (he _) hp
    by_cases e : g = c
    · subst e
      rw [pe_elk hms hk (by omega), if_pos rfl, h1]
    · rw [pe_elg hms hk hg e (by omega), if_neg e, h1, pg_one' (he _), Nat.xor_self]
  · have h0 : eq (k * 12 + c) = 0 := by rw [h c (by omega) k hk, if_neg (by omega)]
    by_cases e : g = k
    · subst e
      rw [pe_elk hms hk (by omega), h0, pg_m0r, if_neg (by omega)]
    · rw [pe_elg hms hk hg e (by omega), h0, pg_m0r, pg_m0r, Nat.xor_zero]
      exact h c (by omega) g hg
theorem pe_all {ms : Nat} {eq X : Nat → Nat} {i : Nat} (hms : ms ≤ 4) (hi : i < 8) (he : ∀ j, eq j < 256) (hX : ∀ j, X j < 256) (h : pe_Sol ms eq X i) (hp : ∀ k, k < ms → pf_ro ms eq k (k * 12 + k) ≠ 0) : ∀ k, k ≤ ms → pe_Sol ms (pf_ro ms eq k) X i ∧ pe_U ms (pf_ro ms eq k) k
  | 0, _ => ⟨h, fun c hc => absurd hc (by omega)⟩
  | k + 1, hk => by
    obtain ⟨h1, h2⟩ := pe_all hms hi he hX h hp k (by omega)
    exact ⟨pe_step hms (by omega) hi (pf_ro_lt he k) hX h1, pe_unit hms (by omega) (pf_ro_lt he k) (hp k (by omega)) h2⟩
/-- behind it the right sides are the solution -/
theorem pe_done {ms : Nat} {eq X : Nat → Nat} {i : Nat} (hms : ms ≤ 4) (hi : i < 8) (he : ∀ j, eq j < 256) (hX : ∀ j, X j < 256) (h : pe_Sol ms eq X i) (hp : ∀ k, k < ms → pf_ro ms eq k (k * 12 + k) ≠ 0) {g : Nat} (hg : g < ms) : pf_ro ms eq ms (g * 12 + (ms + i)) = X g := by
  obtain ⟨h1, h2⟩ := pe_all hms hi he hX h hp ms (Nat.le_refl _)
  rw [← h1 g hg, pe_s_one (g := g) ms (fun j hj hjg => by rw [h2 j hj g hg, if_neg (fun q => hjg q.symm), pg_m0]), if_pos hg, h2 g hg g hg, if_pos rfl, pg_one (hX _)]
/-! ===== the pivots, counted out: all choices of blocks and recovery blocks ===== -/
def ps_at (M : List Nat) (q : Nat) : Nat := M.getD q 0
def ps_step (k : Nat) (M : List Nat) : List Nat :=
  (List.range 16).map (fun q => if q / 4 = k then pg_mulT (pg_invT (ps_at M (k * 4 + k))) (ps_at M (k * 4 + q % 4)) else ps_at M q ^^^ pg_mulT (ps_at M (q / 4 * 4 + k)) (pg_mulT (pg_invT (ps_at M (k * 4 + k))) (ps_at M (k * 4 + q % 4))))
def ps_ok : Nat → Nat → List Nat → Bool
  | 0, _, _ => true
  | n + 1, k, M => (ps_at M (k * 4 + k) != 0) && ps_ok n (k + 1) (ps_step k M)
def ps_m0 (m : Nat) (U B : List Nat) : List Nat := (List.range 16).map (fun q => if q / 4 < m ∧ q % 4 < m then pg_invT ((8 + ps_at U (q / 4)) ^^^ ps_at B (q % 4)) else 0)
theorem ps_rng {n : Nat} {f : Nat → Bool} (h : (List.range n).all f = true) {x : Nat} (hx : x < n) : f x = true := List.all_eq_true.mp h x (List.mem_range.mpr hx)
def ps_gd (x y : Nat) (b : Bool) : Bool := !(decide (x < y)) || b
theorem ps_gd_t {x y : Nat} {b : Bool} (h : ps_gd x y b = true) (hxy : x < y) : b = true := by
  unfold ps_gd at h
  simpa [hxy] using h
theorem ps_1b : (List.range 4).all (fun u0 => (List.range 6).all (fun b0 => ps_ok 1 0 (ps_m0 1 [u0] [b0]))) = true := by decide +kernel
theorem ps_1 {u0 : Nat} (hu0 : u0 < 4) {b0 : Nat} (hb0 : b0 < 6) : ps_ok 1 0 (ps_m0 1 [u0] [b0]) = true := (ps_rng (ps_rng ps_1b hu0) hb0)
theorem ps_2b : (List.range 4).all (fun u0 => (List.range 4).all (fun u1 => ps_gd u0 u1 ((List.range 6).all (fun b0 => (List.range 6).all (fun b1 => ps_gd b0 b1 (ps_ok 2 0 (ps_m0 2 [u0, u1] [b0, b1]))))))) = true := by decide +kernel
theorem ps_2 {u0 : Nat} (hu0 : u0 < 4) {u1 : Nat} (hu1 : u1 < 4) (gu1 : u0 < u1) {b0 : Nat} (hb0 : b0 < 6) {b1 : Nat} (hb1 : b1 < 6) (gb1 : b0 < b1) : ps_ok 2 0 (ps_m0 2 [u0, u1] [b0, b1]) = true := (ps_gd_t (ps_rng (ps_rng (ps_gd_t (ps_rng (ps_rng ps_2b hu0) hu1) gu1) hb0) hb1) gb1)
theorem ps_3b : (List.range 4).all (fun u0 => (List.range 4).all (fun u1 => ps_gd u0 u1 ((List.range 4).all (fun u2 => ps_gd u1 u2 ((List.range 6).all (fun b0 => (List.range 6).all (fun b1 => ps_gd b0 b1 ((List.range 6).all (fun b2 => ps_gd b1 b2 (ps_ok 3 0 (ps_m0 3 [u0, u1, u2] [b0, b1, b2]))))))))))) = true := by decide +kernel
theorem ps_3 {u0 : Nat} (hu0 : u0 < 4) {u1 : Nat} (hu1 : u1 < 4) (gu1 : u0 < u1) {u2 : Nat} (hu2 : u2 < 4) (gu2 : u1 < u2) {b0 : Nat} (hb0 : b0 < 6) {b1 : Nat} (hb1 : b1 < 6) (gb1 : b0 < b1) {b2 : Nat} (hb2 : b2 < 6) (gb2 : b1 < b2) : ps_ok 3 0 (ps_m0 3 [u0, u1, u2] [b0, b1, b2]) = true := (ps_gd_t (ps_rng (ps_gd_t (ps_rng (ps_rng (ps_gd_t (ps_rng (ps_gd_t (ps_rng (ps_rng ps_3b hu0) hu1) gu1) hu2) gu2) hb0) hb1) gb1) hb2) gb2)
theorem ps_4b : (List.range 4).all (fun u0 => (List.range 4).all (fun u1 => ps_gd u0 u1 ((List.range 4).all (fun u2 => ps_gd u1 u2 ((List.range 4).all (fun u3 => ps_gd u2 u3 ((List.range 6).all (fun b0 => (List.range 6).all (fun b1 => ps_gd b0 b1 ((List.range 6).all (fun b2 => ps_gd b1 b2 ((List.range 6).all (fun b3 => ps_gd b2 b3 (ps_ok 4 0 (ps_m0 4 [u0, u1, u2, u3] [b0, b1, b2, b3]))))))))))))))) = true := by decide +kernel
theorem ps_4 {u0 : Nat} (hu0 : u0 < 4) {u1 : Nat} (hu1 : u1 < 4) (gu1 : u0 < u1) {u2 : Nat} (hu2 : u2 < 4) (gu2 : u1 < u2) {u3 : Nat} (hu3 : u3 < 4) (gu3 : u2 < u3) {b0 : Nat} (hb0 : b0 < 6) {b1 : Nat} (hb1 : b1 < 6) (gb1 : b0 < b1) {b2 : Nat} (hb2 : b2 < 6) (gb2 : b1 < b2) {b3 : Nat} (hb3 : b3 < 6) (gb3 : b2 < b3) : ps_ok 4 0 (ps_m0 4 [u0, u1, u2, u3] [b0, b1, b2, b3]) = true := (ps_gd_t (ps_rng (ps_gd_t (ps_rng (ps_gd_t (ps_rng (ps_rng (ps_gd_t (ps_rng (ps_gd_t (ps_rng (ps_gd_t (ps_rng (ps_rng ps_4b hu0) hu1) gu1) hu2) gu2) hu3) gu3) hb0) hb1) gb1) hb2) gb2) hb3) gb3)
def ps_Ag (m : Nat) (eq : Nat → Nat) (M : List Nat) : Prop := ∀ g j, g < m → j < m → eq (g * 12 + j) = ps_at M (g * 4 + j)
theorem ps_map {f : Nat → Nat} {q : Nat} (h : q < 16) : ps_at ((List.range 16).map f) q = f q := by
  unfold ps_at
  rw [List.getD_eq_getElem?_getD, List.getElem?_map, List.getElem?_range h]
  rfl
theorem ps_next {m k : Nat} {eq : Nat → Nat} {M : List Nat} (hm : m ≤ 4) (hk : k < m) (he : ∀ j, eq j < 256) (hp : eq (k * 12 + k) ≠ 0) (h : ps_Ag m eq M) : ps_Ag m (pf_el m k eq) (ps_step k M) := by
  intro g j hg hj
  unfold ps_step
  rw [ps_map (by omega)]
  have e1 : (g * 4 + j) / 4 = g := by omega
  have e2 : (g * 4 + j) % 4 = j := by omega
  rw [e1, e2, ← h k k hk hk, ← h k j hk hj]
  have hi : pf_inv (eq (k * 12 + k)) = pg_invT (eq (k * 12 + k)) := pg_inv_T (he _) hp
  by_cases e : g = k
  · subst e
    rw [if_pos rfl, pe_elk hm hk (by omega), pg_mul_T (pf_inv_lt _) (he _), hi]
  · rw [if_neg e, pe_elg hm hk hg e (by omega), ← h g j hg hj, ← h g k hg hk, pg_mul_T (he _) (pf_mul_lt _ _), pg_mul_T (pf_inv_lt _) (he _), hi]
theorem ps_piv {m : Nat} {eq : Nat → Nat} (hm : m ≤ 4) (he : ∀ j, eq j < 256) : ∀ n k M, k + n = m → ps_Ag m (pf_ro m eq k) M → ps_ok n k M = true → ∀ j, k ≤ j → j < m → pf_ro m eq j (j * 12 + j) ≠ 0
  | 0, k, M, h1, _, _, j, h2, h3 => absurd h2 (by omega)
  | n + 1, k, M, h1, hA, hok, j, h2, h3 => by
    have hd : ps_ok (n + 1) k M = ((ps_at M (k * 4 + k) != 0) && ps_ok n (k + 1) (ps_step k M)) := rfl
    rw [hd, Bool.and_eq_true, bne_iff_ne] at hok
    have hp : pf_ro m eq k (k * 12 + k) ≠ 0 := by rw [hA k k (by omega) (by omega)]; exact hok.1
    by_cases e : j = k
    · subst e; exact hp
    · exact ps_piv hm he n (k + 1) (ps_step k M) (by omega) (ps_next hm (by omega) (pf_ro_lt he k) hp hA) hok.2 j (by omega) h3
/-- no pivot is 0: increasing marks -/
theorem ps_all {m : Nat} {eq u b : Nat → Nat} (hm : m ≤ 4) (he : ∀ j, eq j < 256) (hu : ∀ j, j < m → u j < 4) (hb : ∀ j, j < m → b j < 6) (hui : ∀ i j, i < j → j < m → u i < u j) (hbi : ∀ i j, i < j → j < m → b i < b j) (hf : ∀ g j, g < m → j < m → eq (g * 12 + j) = pf_fac (u g) (b j)) : ∀ k, k < m → pf_ro m eq k (k * 12 + k) ≠ 0 := by
  have hx : ∀ g j, g < m → j < m → (8 + u g) ^^^ b j < 256 ∧ (8 + u g) ^^^ b j ≠ 0 := by
    intro g j hg hj
    have key : ∀ r, r < 4 → ∀ c, c < 6 → (8 + r) ^^^ c < 256 ∧ (8 + r) ^^^ c ≠ 0 := by decide +kernel
    exact key _ (hu g hg) _ (hb j hj)
  have hA : ∀ U B : List Nat, (∀ j, j < m → ps_at U j = u j) → (∀ j, j < m → ps_at B j = b j) → ps_Ag m eq (ps_m0 m U B) := by
    intro U B h1 h2 g j hg hj
    unfold ps_m0
    rw [ps_map (by omega)]
    have e1 : (g * 4 + j) / 4 = g := by omega
    have e2 : (g * 4 + j) % 4 = j := by omega
    rw [e1, e2, if_pos ⟨hg, hj⟩, h1 g hg, h2 j hj, hf g j hg hj]
    exact pg_inv_T (hx g j hg hj).1 (hx g j hg hj).2
  intro k hk
  match m, hm, hk, hu, hb, hui, hbi, hA, he with
  | 0, _, hk, _, _, _, _, _, _ => exact absurd hk (by omega)
  | 1, hm, hk, hu, hb, hui, hbi, hA, he =>
    refine ps_piv hm he 1 0 (ps_m0 1 [u 0] [b 0]) rfl (hA _ _ ?_ ?_) (ps_1 (hu 0 (by omega)) (hb 0 (by omega))) k (by omega) hk
    · intro j hj; have : j = 0 := by omega
      subst this; rfl
    · intro j hj; have : j = 0 := by omega
      subst this; rfl
  | 2, hm, hk, hu, hb, hui, hbi, hA, he =>
    refine ps_piv hm he 2 0 (ps_m0 2 [u 0, u 1] [b 0, b 1]) rfl (hA _ _ ?_ ?_) (ps_2 (hu 0 (by omega)) (hu 1 (by omega)) (hui 0 1 (by omega) (by omega)) (hb 0 (by omega)) (hb 1 (by omega)) (hbi 0 1 (by omega) (by omega))) k (by omega) hk
    · intro j hj
      rcases (show j = 0 ∨ j = 1 by omega) with rfl | rfl <;> rfl
    · intro j hj
      rcases (show j = 0 ∨ j = 1 by omega) with rfl | rfl <;> rfl
  | 3, hm, hk, hu, hb, hui, hbi, hA, he =>
    refine ps_piv hm he 3 0 (ps_m0 3 [u 0, u 1, u 2] [b 0, b 1, b 2]) rfl (hA _ _ ?_ ?_) (ps_3 (hu 0 (by omega)) (hu 1 (by omega)) (hui 0 1 (by omega) (by omega)) (hu 2 (by omega)) (hui 1 2 (by omega) (by omega)) (hb 0 (by omega)) (hb 1 (by omega)) (hbi 0 1 (by omega) (by omega)) (hb 2 (by omega)) (hbi 1 2 (by omega) (by omega))) k (by omega) hk
    · intro j hj
      rcases (show j = 0 ∨ j = 1 ∨ j = 2 by omega) with rfl | rfl | rfl <;> rfl
    · intro j hj
      rcases (show j = 0 ∨ j = 1 ∨ j = 2 by omega) with rfl | rfl | rfl <;> rfl
  | 4, hm, hk, hu, hb, hui, hbi, hA, he =>
    refine ps_piv hm he 4 0 (ps_m0 4 [u 0, u 1, u 2, u 3] [b 0, b 1, b 2, b 3]) rfl (hA _ _ ?_ ?_) (ps_4 (hu 0 (by omega)) (hu 1 (by omega)) (hui 0 1 (by omega) (by omega)) (hu 2 (by omega)) (hui 1 2 (by omega) (by omega)) (hu 3 (by omega)) (hui 2 3 (by omega) (by omega)) (hb 0 (by omega)) (hb 1 (by omega)) (hbi 0 1 (by omega) (by omega)) (hb 2 (by omega)) (hbi 1 2 (by omega) (by omega)) (hb 3 (by omega)) (hbi 2 3 (by omega) (by omega))) k (by omega) hk
    · intro j hj
      rcases (show j = 0 ∨ j = 1 ∨ j = 2 ∨ j = 3 by omega) with rfl | rfl | rfl | rfl <;> rfl
    · intro j hj
      rcases (show j = 0 ∨ j = 1 ∨ j = 2 ∨ j = 3 by omega) with rfl | rfl | rfl | rfl <;> rfl
end
section
/-! ===== counting, lists, sums, check values: plain facts ===== -/
theorem pn_good (rt : Nat → Nat) : ∀ n, pf_good rt n = pf_ng rt n
  | 0 => rfl
  | n + 1 => by
    show (if rt n = 0 then pf_good rt n else pf_good rt n + 1) = (if rt n = 0 then pf_ng rt n else pf_ng rt n + 1)
    rw [pn_good rt n]
theorem pn_bad (da th : Nat → Nat) (ck : Nat → Int32) : ∀ n, pf_bad da th ck n = pf_ng (pf_st da th ck) n
  | 0 => rfl
  | n + 1 => by
    show (if pf_st da th ck n = 0 then pf_bad da th ck n else pf_bad da th ck n + 1) = (if pf_st da th ck n = 0 then pf_ng (pf_st da th ck) n else pf_ng (pf_st da th ck) n + 1)
    rw [pn_bad da th ck n]
theorem pn_succ {p : Nat → Nat} {n : Nat} (h : p n ≠ 0) : pf_ng p (n + 1) = pf_ng p n + 1 := if_neg h
theorem pn_succ0 {p : Nat → Nat} {n : Nat} (h : p n = 0) : pf_ng p (n + 1) = pf_ng p n := if_pos h
theorem pn_mono {p : Nat → Nat} {i : Nat} : ∀ n, pf_ng p i ≤ pf_ng p (i + n)
  | 0 => Nat.le_refl _
  | n + 1 => by
    have h := pn_mono (p := p) (i := i) n
    rw [show i + (n + 1) = (i + n) + 1 by omega]
    by_cases e : p (i + n) = 0
    · rw [pn_succ0 e]; exact h
    · rw [pn_succ e]; omega
theorem pn_mono' {p : Nat → Nat} {i j : Nat} (h : i ≤ j) : pf_ng p i ≤ pf_ng p j := by
  obtain ⟨n, rfl⟩ : ∃ n, j = i + n := ⟨j - i, by omega⟩
  exact pn_mono n
theorem pn_lt {p : Nat → Nat} {i n : Nat} (hi : i < n) (h : p i ≠ 0) : pf_ng p i < pf_ng p n := by
  have h1 := pn_mono' (p := p) (show i + 1 ≤ n from hi)
  rw [pn_succ h] at h1
  exact h1
theorem pn_inc {p : Nat → Nat} {i j : Nat} (h : pf_ng p i < pf_ng p j) : i < j := by
  rcases Nat.lt_or_ge i j with q | q
  · exact q
  · exact absurd (pn_mono' (p := p) q) (by omega)
theorem pn_at {p : Nat → Nat} : ∀ N j, j < pf_ng p N → ∃ n, n < N ∧ p n ≠ 0 ∧ pf_ng p n = j
  | 0, j, h => absurd h (Nat.not_lt_zero j)
  | N + 1, j, h => by
    by_cases e : p N = 0
    · rw [pn_succ0 e] at h
      obtain ⟨n, h1, h2⟩ := pn_at N j h
      exact ⟨n, by omega, h2⟩
    · rw [pn_succ e] at h
      rcases Nat.lt_or_ge j (pf_ng p N) with q | q
      · obtain ⟨n, h1, h2⟩ := pn_at N j q
        exact ⟨n, by omega, h2⟩
      · exact ⟨N, by omega, e, by omega⟩
theorem pn_congr {p q : Nat → Nat} : ∀ n, (∀ k, k < n → (p k = 0 ↔ q k = 0)) → pf_ng p n = pf_ng q n
  | 0, _ => rfl
  | n + 1, h => by
    have h1 := pn_congr n (fun k hk => h k (by omega))
    have h2 := h n (by omega)
    by_cases e : p n = 0
    · rw [pn_succ0 e, pn_succ0 (h2.mp e), h1]
    · rw [pn_succ e, pn_succ (fun z => e (h2.mpr z)), h1]
theorem pn_zero {p : Nat → Nat} : ∀ n, pf_ng p n = 0 → ∀ k, k < n → p k = 0
  | n, h, k, hk => by
    by_cases e : p k = 0
    · exact e
    · exact absurd (pn_lt hk e) (by omega)
theorem pn_sp {rt lo : Nat → Nat} : ∀ n, (∀ r, r < n → (rt r = 0 ↔ lo r ≠ 0)) → pf_good rt n = pf_sp lo n
  | 0, _ => rfl
  | n + 1, h => by
    have h1 := pn_sp n (fun k hk => h k (by omega))
    have h2 := h n (by omega)
    show (if rt n = 0 then pf_good rt n else pf_good rt n + 1) = (if lo n = 0 then pf_sp lo n + 1 else pf_sp lo n)
    by_cases e : rt n = 0
    · rw [if_pos e, if_neg (h2.mp e), h1]
    · have e2 : lo n = 0 := by
        by_cases z : lo n = 0
        · exact z
        · exact absurd (h2.mpr z) e
      rw [if_neg e, if_pos e2, h1]
/-! the list of missing blocks, the list of used recovery blocks -/
theorem pl_lm {da th : Nat → Nat} {ck : Nat → Int32} {mb : Nat → Nat} {n : Nat} (h : pf_st da th ck n ≠ 0) : ∀ d, pf_lm da th ck mb (n + 1 + d) (pf_bad da th ck n) = n
  | 0 => by
    have h1 : pf_lm da th ck mb (n + 1) = pa_u (pf_lm da th ck mb n) (pf_bad da th ck n) n := if_neg h
    show pf_lm da th ck mb (n + 1) _ = n
    rw [h1]
    exact pa_us
  | d + 1 => by
    have ih := pl_lm (mb := mb) h d
    have h1 : pf_lm da th ck mb (n + 1 + (d + 1)) = if pf_st da th ck (n + 1 + d) = 0 then pf_lm da th ck mb (n + 1 + d) else pa_u (pf_lm da th ck mb (n + 1 + d)) (pf_bad da th ck (n + 1 + d)) (n + 1 + d) := rfl
    rw [h1]
    by_cases e : pf_st da th ck (n + 1 + d) = 0
    · rw [if_pos e]; exact ih
    · rw [if_neg e, pa_un]
      · exact ih
      · have h2 := pn_mono (p := pf_st da th ck) (i := n + 1) d
        rw [pn_succ h] at h2
        rw [pn_bad, pn_bad]
        omega
theorem pl_us {rt : Nat → Nat} {ms : Nat} {ur : Nat → Nat} {r : Nat} (h : rt r ≠ 0) (hg : pf_good rt r < ms) : ∀ d, pf_us rt ms ur (r + 1 + d) (pf_good rt r) = r
  | 0 => by
    have h1 : pf_us rt ms ur (r + 1) = pa_u (pf_us rt ms ur r) (pf_good rt r) r := if_neg (fun q => q.elim h (fun q => by omega))
    show pf_us rt ms ur (r + 1) _ = r
    rw [h1]
    exact pa_us
  | d + 1 => by
    have ih := pl_us (ur := ur) h hg d
    have h1 : pf_us rt ms ur (r + 1 + (d + 1)) = if rt (r + 1 + d) = 0 ∨ ms ≤ pf_good rt (r + 1 + d) then pf_us rt ms ur (r + 1 + d) else pa_u (pf_us rt ms ur (r + 1 + d)) (pf_good rt (r + 1 + d)) (r + 1 + d) := rfl
    rw [h1]
    by_cases e : rt (r + 1 + d) = 0 ∨ ms ≤ pf_good rt (r + 1 + d)
    · rw [if_pos e]; exact ih
    · rw [if_neg e, pa_un]
      · exact ih
      · have h2 := pn_mono (p := rt) (i := r + 1) d
        rw [pn_succ h] at h2
        rw [pn_good, pn_good]
        omega
/-- a list that holds at the count of n the place n, for every n counted -/
theorem pl_inv {p f : Nat → Nat} {N M : Nat} (hM : M ≤ pf_ng p N) (hf : ∀ n, n < N → p n ≠ 0 → pf_ng p n < M → f (pf_ng p n) = n) {j : Nat} (hj : j < M) : f j < N ∧ p (f j) ≠ 0 ∧ pf_ng p (f j) = j := by
  obtain ⟨n, h1, h2, h3⟩ := pn_at (p := p) N j (by omega)
  have h4 := hf n h1 h2 (by omega)
  rw [h3] at h4
  rw [h4]
  exact ⟨h1, h2, h3⟩
theorem pl_inc {p f : Nat → Nat} {N M : Nat} (hM : M ≤ pf_ng p N) (hf : ∀ n, n < N → p n ≠ 0 → pf_ng p n < M → f (pf_ng p n) = n) {i j : Nat} (hij : i < j) (hj : j < M) : f i < f j := by
  have h1 := (pl_inv hM hf (show i < M by omega)).2.2
  have h2 := (pl_inv hM hf hj).2.2
  exact pn_inc (p := p) (by rw [h1, h2]; exact hij)
/-! the equations -/
theorem pl_sa {ur mb : Nat → Nat} {g : Nat} {eq : Nat → Nat} : ∀ n, n ≤ 12 → ∀ g' j, j < 12 → pf_sa ur mb g eq n (g' * 12 + j) = if g' = g ∧ j < n then pf_fac (ur g) (mb j) else eq (g' * 12 + j)
  | 0, _, g', j, _ => by rw [if_neg (by omega)]; rfl
  | n + 1, hn, g', j, hj => by
    show pa_u (pf_sa ur mb g eq n) (g * 12 + n) (pf_fac (ur g) (mb n)) (g' * 12 + j) = _
    by_cases e : g' = g ∧ j = n
    · obtain ⟨rfl, rfl⟩ := e
      rw [pa_us, if_pos ⟨rfl, by omega⟩]
    · rw [pa_un (by omega), pl_sa n (by omega) g' j hj]
      by_cases h : g' = g ∧ j < n
      · rw [if_pos h, if_pos ⟨h.1, by omega⟩]
      · rw [if_neg h, if_neg (by omega)]
theorem pl_sb {da re : Nat → Nat} {ms : Nat} {mb ur : Nat → Nat} {g : Nat} {eq : Nat → Nat} (hms : ms ≤ 4) : ∀ n, n ≤ 8 → ∀ g' j, j < 12 → pf_sb da re ms mb ur g eq n (g' * 12 + j) = if g' = g ∧ ms ≤ j ∧ j < ms + n then pf_rst da re ms mb (ur g) (j - ms) 6 else eq (g' * 12 + j)
  | 0, _, g', j, _ => by rw [if_neg (by omega)]; rfl
  | n + 1, hn, g', j, hj => by
    show pa_u (pf_sb da re ms mb ur g eq n) (g * 12 + ms + n) (pf_rst da re ms mb (ur g) n 6) (g' * 12 + j) = _
    by_cases e : g' = g ∧ j = ms + n
    · obtain ⟨rfl, rfl⟩ := e
      rw [show g' * 12 + (ms + n) = g' * 12 + ms + n by omega, pa_us, if_pos ⟨rfl, by omega, by omega⟩, show ms + n - ms = n by omega]
    · rw [pa_un (by omega), pl_sb hms n (by omega) g' j hj]
      by_cases h : g' = g ∧ ms ≤ j ∧ j < ms + n
      · rw [if_pos h, if_pos ⟨h.1, h.2.1, by omega⟩]
      · rw [if_neg h, if_neg (by omega)]
theorem pl_se {da re : Nat → Nat} {ms : Nat} {mb ur eq : Nat → Nat} (hms : ms ≤ 4) : ∀ n g, g < n → (∀ j, j < ms → pf_se da re ms mb ur eq n (g * 12 + j) = pf_fac (ur g) (mb j)) ∧ ∀ i, i < 8 → pf_se da re ms mb ur eq n (g * 12 + (ms + i)) = pf_rst da re ms mb (ur g) i 6
  | 0, g, h => absurd h (by omega)
  | n + 1, g, h => by
    have hd : pf_se da re ms mb ur eq (n + 1) = pf_sb da re ms mb ur n (pf_sa ur mb n (pf_se da re ms mb ur eq n) ms) 8 := rfl
    rw [hd]
    refine ⟨fun j hj => ?_, fun i hi => ?_⟩
    · rw [pl_sb hms 8 (by omega) g j (by omega), if_neg (by omega), pl_sa ms (by omega) g j (by omega)]
      by_cases e : g = n
      · rw [if_pos ⟨e, hj⟩, e]
      · rw [if_neg (fun q => e q.1)]
        exact (pl_se hms n g (by omega)).1 j hj
    · rw [pl_sb hms 8 (by omega) g (ms + i) (by omega)]
      by_cases e : g = n
      · rw [if_pos ⟨e, by omega, by omega⟩, e, show ms + i - ms = i by omega]
      · rw [if_neg (fun q => e q.1), pl_sa ms (by omega) g (ms + i) (by omega), if_neg (fun q => e q.1)]
        exact (pl_se hms n g (by omega)).2 i hi
/-! recovery blocks -/
theorem pl_rs {f g : Nat → Nat} {r i : Nat} : ∀ n, (∀ b, b < n → f (b * 8 + i) = g (b * 8 + i)) → pf_rs f r i n = pf_rs g r i n
  | 0, _ => rfl
  | n + 1, h => by
    show pf_rs f r i n ^^^ pf_mul (pf_fac r n) (f (n * 8 + i)) = pf_rs g r i n ^^^ pf_mul (pf_fac r n) (g (n * 8 + i))
    rw [pl_rs n (fun b hb => h b (by omega)), h n (by omega)]
theorem pl_rs_u {f : Nat → Nat} {r i b v : Nat} (hf : ∀ j, f j < 256) (hv : v < 256) : ∀ n, pf_rs (pa_u f (b * 8 + i) v) r i n = if b < n then pf_rs f r i n ^^^ pf_mul (pf_fac r b) (f (b * 8 + i) ^^^ v) else pf_rs f r i n
  | 0 => by rw [if_neg (by omega)]; rfl
  | n + 1 => by
    show pf_rs (pa_u f (b * 8 + i) v) r i n ^^^ pf_mul (pf_fac r n) (pa_u f (b * 8 + i) v (n * 8 + i)) = _
    rw [pl_rs_u hf hv n]
    have hd : pf_rs f r i (n + 1) = pf_rs f r i n ^^^ pf_mul (pf_fac r n) (f (n * 8 + i)) := rfl
    rw [hd]
    by_cases e : n = b
    · subst e
      rw [if_neg (by omega), if_pos (by omega), pa_us, Nat.xor_assoc, ← pg_mul_xor (pf_fac_lt _ _) (hf _) (pf_xor_lt (hf _) hv), ← Nat.xor_assoc, Nat.xor_self, Nat.zero_xor]
    · rw [pa_un (by omega)]
      by_cases h : b < n
      · rw [if_pos h, if_pos (by omega), Nat.xor_assoc, Nat.xor_assoc, Nat.xor_comm (pf_mul (pf_fac r b) _)]
      · rw [if_neg h, if_neg (by omega)]
theorem pl_mk {da re : Nat → Nat} {r : Nat} : ∀ n, n ≤ 8 → ∀ r' i, i < 8 → pf_mk da re r n (r' * 8 + i) = if r' = r ∧ i < n then pf_rs da r i 6 else re (r' * 8 + i)
  | 0, _, r', i, _ => by rw [if_neg (by omega)]; rfl
  | n + 1, hn, r', i, hi => by
    show pa_u (pf_mk da re r n) (r * 8 + n) (pf_rs da r n 6) (r' * 8 + i) = _
    by_cases e : r' = r ∧ i = n
    · obtain ⟨rfl, rfl⟩ := e
      rw [pa_us, if_pos ⟨rfl, by omega⟩]
    · rw [pa_un (by omega), pl_mk n (by omega) r' i hi]
      by_cases h : r' = r ∧ i < n
      · rw [if_pos h, if_pos ⟨h.1, by omega⟩]
      · rw [if_neg h, if_neg (by omega)]
theorem pl_pr {da re : Nat → Nat} : ∀ n r i, r < n → i < 8 → pf_pr da re n (r * 8 + i) = pf_rs da r i 6
  | 0, r, i, h, _ => absurd h (by omega)
  | n + 1, r, i, h, hi => by
    show pf_mk da (pf_pr da re n) n 8 (r * 8 + i) = _
    rw [pl_mk 8 (by omega) r i hi]
    by_cases e : r = n
    · rw [if_pos ⟨e, hi⟩, e]
    · rw [if_neg (fun q => e q.1)]
      exact pl_pr n r i (by omega) hi
theorem pl_pt {rt : Nat → Nat} : ∀ n r, r < n → pf_pt rt n r = 1
  | 0, r, h => absurd h (by omega)
  | n + 1, r, h => by
    show pa_u (pf_pt rt n) n 1 r = 1
    by_cases e : r = n
    · rw [e]; exact pa_us
    · rw [pa_un e]; exact pl_pt n r (by omega)
theorem pl_wr {re : Nat → Nat} {b i x : Nat} (hi : i < 8) : ∀ n r i', i' < 8 → pf_wr re b i x n (r * 8 + i') = if r < n ∧ i' = i then re (r * 8 + i') ^^^ pf_mul (pf_fac r b) x else re (r * 8 + i')
  | 0, r, i', _ => by rw [if_neg (by omega)]; rfl
  | n + 1, r, i', h => by
    show pa_u (pf_wr re b i x n) (n * 8 + i) (pf_wr re b i x n (n * 8 + i) ^^^ pf_mul (pf_fac n b) x) (r * 8 + i') = _
    by_cases e : r = n ∧ i' = i
    · obtain ⟨rfl, rfl⟩ := e
      rw [pa_us, if_pos ⟨by omega, rfl⟩, pl_wr hi r r i' hi, if_neg (by omega)]
    · rw [pa_un (by omega), pl_wr hi n r i' h]
      by_cases h2 : r < n ∧ i' = i
      · rw [if_pos h2, if_pos ⟨by omega, h2.2⟩]
      · rw [if_neg h2, if_neg (by omega)]
/-- the missing blocks' part of a recovery block -/
theorem pl_rst {da re rl : Nat → Nat} {ms : Nat} {mb st : Nat → Nat} {r i : Nat} (hre : re (r * 8 + i) = pf_rs rl r i 6) (him : ∀ b, b < 6 → (pf_im mb b ms = 0 ↔ st b = 0)) (hda : ∀ b, b < 6 → st b = 0 → da (b * 8 + i) = rl (b * 8 + i)) (hmb : ∀ b, b < 6 → st b ≠ 0 → mb (pf_ng st b) = b) :
    ∀ n, n ≤ 6 → pf_rst da re ms mb r i n ^^^ pe_s (fun j => pf_mul (pf_fac r (mb j)) (rl (mb j * 8 + i))) (pf_ng st n) = pf_rs rl r i 6 ^^^ pf_rs rl r i n
  | 0, _ => by
    show re (r * 8 + i) ^^^ 0 = _ ^^^ 0
    rw [hre]
  | n + 1, hn => by
    have ih := pl_rst hre him hda hmb n (by omega)
    have hd : pf_rst da re ms mb r i (n + 1) = if pf_im mb n ms = 0 then pf_rst da re ms mb r i n ^^^ pf_mul (pf_fac r n) (da (n * 8 + i)) else pf_rst da re ms mb r i n := rfl
    have hs : pf_rs rl r i (n + 1) = pf_rs rl r i n ^^^ pf_mul (pf_fac r n) (rl (n * 8 + i)) := rfl
    rw [hd, hs, ← Nat.xor_assoc, ← ih]
    by_cases e : st n = 0
    · rw [if_pos ((him n (by omega)).mpr e), pn_succ0 e, hda n (by omega) e, Nat.xor_assoc, Nat.xor_assoc, Nat.xor_comm (pf_mul (pf_fac r n) _)]
    · rw [if_neg (fun q => e ((him n (by omega)).mp q)), pn_succ e]
      show _ ^^^ (pe_s _ (pf_ng st n) ^^^ pf_mul (pf_fac r (mb (pf_ng st n))) (rl (mb (pf_ng st n) * 8 + i))) = _
      rw [hmb n (by omega) e, Nat.xor_assoc]
theorem pl_x0 {a b : Nat} (h : a ^^^ b = 0) : a = b := by
  have h1 : (a ^^^ b) ^^^ b = 0 ^^^ b := by rw [h]
  rw [Nat.xor_assoc, Nat.xor_self, Nat.xor_zero, Nat.zero_xor] at h1
  exact h1
/-! blocks put back -/
theorem pl_pb {da : Nat → Nat} {b : Nat} {v : Nat → Nat} : ∀ n, n ≤ 8 → ∀ b' i, i < 8 → pf_pb da b v n (b' * 8 + i) = if b' = b ∧ i < n then v i else da (b' * 8 + i)
  | 0, _, b', i, _ => by rw [if_neg (by omega)]; rfl
  | n + 1, hn, b', i, hi => by
    show pa_u (pf_pb da b v n) (b * 8 + n) (v n) (b' * 8 + i) = _
    by_cases e : b' = b ∧ i = n
    · obtain ⟨rfl, rfl⟩ := e
      rw [pa_us, if_pos ⟨rfl, by omega⟩]
    · rw [pa_un (by omega), pl_pb n (by omega) b' i hi]
      by_cases h : b' = b ∧ i < n
      · rw [if_pos h, if_pos ⟨h.1, by omega⟩]
      · rw [if_neg h, if_neg (by omega)]
theorem pl_qd_in {mb : Nat → Nat} {v : Nat → Nat → Nat} {da : Nat → Nat} {i : Nat} (hi : i < 8) : ∀ n, (∀ a b, a < b → b < n → mb a ≠ mb b) → ∀ j, j < n → pf_qd mb v da n (mb j * 8 + i) = v j i
  | 0, _, j, h => absurd h (by omega)
  | n + 1, hd, j, h => by
    show pf_pb (pf_qd mb v da n) (mb n) (v n) 8 (mb j * 8 + i) = _
    rw [pl_pb 8 (by omega) (mb j) i hi]
    by_cases e : j = n
    · rw [e, if_pos ⟨rfl, hi⟩]
    · rw [if_neg (fun q => hd j n (by omega) (by omega) q.1)]
      exact pl_qd_in hi n (fun a b h1 h2 => hd a b h1 (by omega)) j (by omega)
theorem pl_qd_out {mb : Nat → Nat} {v : Nat → Nat → Nat} {da : Nat → Nat} {b i : Nat} (hi : i < 8) : ∀ n, (∀ j, j < n → mb j ≠ b) → pf_qd mb v da n (b * 8 + i) = da (b * 8 + i)
  | 0, _ => rfl
  | n + 1, h => by
    show pf_pb (pf_qd mb v da n) (mb n) (v n) 8 (b * 8 + i) = _
    rw [pl_pb 8 (by omega) b i hi, if_neg (fun q => h n (by omega) q.1.symm)]
    exact pl_qd_out hi n (fun j hj => h j (by omega))
theorem pl_qt_in {mb th : Nat → Nat} : ∀ n j, j < n → pf_qt mb th n (mb j) = 1
  | 0, j, h => absurd h (by omega)
  | n + 1, j, h => by
    show pa_u (pf_qt mb th n) (mb n) 1 (mb j) = 1
    by_cases e : mb j = mb n
    · rw [e]; exact pa_us
    · rw [pa_un e]
      exact pl_qt_in n j (by
        rcases Nat.lt_or_ge j n with q | q
        · exact q
        · exact absurd (congrArg mb (show j = n by omega)) e)
theorem pl_qt_out {mb th : Nat → Nat} {b : Nat} : ∀ n, (∀ j, j < n → mb j ≠ b) → pf_qt mb th n b = th b
  | 0, _ => rfl
  | n + 1, h => by
    show pa_u (pf_qt mb th n) (mb n) 1 b = _
    rw [pa_un (fun q => h n (by omega) q.symm)]
    exact pl_qt_out n (fun j hj => h j (by omega))
theorem pl_sum {f g : Nat → Nat} {b : Nat} : ∀ n, (∀ k, k < n → f (b * 8 + k) = g (b * 8 + k)) → pf_sum f b n = pf_sum g b n
  | 0, _ => rfl
  | n + 1, h => by
    show pf_sum f b n * 16777619 + nI (f (b * 8 + n)) = pf_sum g b n * 16777619 + nI (g (b * 8 + n))
    rw [pl_sum n (fun k hk => h k (by omega)), h n (by omega)]
theorem pl_qc_in {mb : Nat → Nat} {v : Nat → Nat → Nat} {da : Nat → Nat} {ck : Nat → Int32} : ∀ n, (∀ a b, a < b → b < n → mb a ≠ mb b) → ∀ j, j < n → pf_qc mb v da ck n (mb j) = pf_sum (pf_qd mb v da n) (mb j) 8
  | 0, _, j, h => absurd h (by omega)
  | n + 1, hd, j, h => by
    show upd (pf_qc mb v da ck n) (mb n) (pf_sum (pf_qd mb v da (n + 1)) (mb n) 8) (mb j) = _
    by_cases e : j = n
    · rw [e]; exact pk_us
    · have hne := hd j n (by omega) (by omega)
      rw [pk_un hne, pl_qc_in n (fun a b h1 h2 => hd a b h1 (by omega)) j (by omega)]
      refine pl_sum 8 (fun k hk => ?_)
      show _ = pf_pb (pf_qd mb v da n) (mb n) (v n) 8 (mb j * 8 + k)
      rw [pl_pb 8 (by omega) (mb j) k hk, if_neg (fun q => hne q.1)]
theorem pl_qc_out {mb : Nat → Nat} {v : Nat → Nat → Nat} {da : Nat → Nat} {ck : Nat → Int32} {b : Nat} : ∀ n, (∀ j, j < n → mb j ≠ b) → pf_qc mb v da ck n b = ck b
  | 0, _ => rfl
  | n + 1, h => by
    show upd (pf_qc mb v da ck n) (mb n) _ b = _
    rw [pk_un (fun q => h n (by omega) q.symm)]
    exact pl_qc_out n (fun j hj => h j (by omega))
/-! a change of one byte changes the check value -/
theorem pl_odd {x y z : Int32} (h : x * 16777619 + z = y * 16777619 + z) : x = y := by
  have h1 : x * 16777619 = y * 16777619 := by
    have h2 := congrArg (fun q => q - z) h
    simpa [Int32.add_sub_cancel] using h2
  have h3 := congrArg (fun q => q * 899433627) h1
  have h4 : (16777619 : Int32) * 899433627 = 1 := by decide
  simpa [Int32.mul_assoc, h4] using h3
theorem pl_cng {f : Nat → Nat} {b i v : Nat} (hf : ∀ j, f j < 256) (hv : v < 256) (hne : f (b * 8 + i) ≠ v) : ∀ n, i < n → pf_sum (pa_u f (b * 8 + i) v) b n ≠ pf_sum f b n
  | 0, h => absurd h (by omega)
  | n + 1, h => by
    intro q
    have q : pf_sum (pa_u f (b * 8 + i) v) b n * 16777619 + nI (pa_u f (b * 8 + i) v (b * 8 + n)) = pf_sum f b n * 16777619 + nI (f (b * 8 + n)) := q
    by_cases e : i = n
    · subst e
      rw [pa_us, pl_sum (f := pa_u f (b * 8 + i) v) (g := f) i (fun k hk => pa_un (by omega))] at q
      have q2 := congrArg (fun z => z - pf_sum f b i * 16777619) q
      have q3 : nI v = nI (f (b * 8 + i)) := by
        simpa [Int32.add_comm, Int32.add_sub_cancel] using q2
      have q4 := (nI_eq (by omega) (by have := hf (b * 8 + i); omega)).mp q3
      exact hne q4.symm
    · rw [pa_un (show b * 8 + n ≠ b * 8 + i by omega)] at q
      exact pl_cng hf hv hne n (by omega) (pl_odd q)
/-! the reference's loops -/
theorem pl_z {f : Nat → Nat} : ∀ n k, pf_z f n k = if k < n then 0 else f k
  | 0, k => by rw [if_neg (by omega)]; rfl
  | n + 1, k => by
    show pa_u (pf_z f n) n 0 k = _
    by_cases e : k = n
    · rw [e, pa_us, if_pos (by omega)]
    · rw [pa_un e, pl_z n k]
      by_cases h : k < n
      · rw [if_pos h, if_pos (by omega)]
      · rw [if_neg h, if_neg (by omega)]
theorem pl_zr {st rl : Nat → Nat} : ∀ n k, pf_zr st rl n k = if k < n ∧ st (k / 8) ≠ 0 then 0 else rl k
  | 0, k => by rw [if_neg (by omega)]; rfl
  | n + 1, k => by
    have hd : pf_zr st rl (n + 1) = if st (n / 8) = 0 then pf_zr st rl n else pa_u (pf_zr st rl n) n 0 := rfl
    rw [hd]
    by_cases e : st (n / 8) = 0
    · rw [if_pos e, pl_zr n k]
      by_cases h : k < n ∧ st (k / 8) ≠ 0
      · rw [if_pos h, if_pos ⟨by omega, h.2⟩]
      · rw [if_neg h, if_neg (fun q => h ⟨by
          rcases Nat.lt_or_ge k n with z | z
          · exact z
          · exact absurd e (by rw [← show k = n by omega]; exact q.2), q.2⟩)]
    · rw [if_neg e]
      by_cases h : k = n
      · rw [h, pa_us, if_pos ⟨by omega, e⟩]
      · rw [pa_un h, pl_zr n k]
        by_cases h2 : k < n ∧ st (k / 8) ≠ 0
        · rw [if_pos h2, if_pos ⟨by omega, h2.2⟩]
        · rw [if_neg h2, if_neg (fun q => h2 ⟨by omega, q.2⟩)]
end
section
/-! ===== the archive and the reference agree: the invariant, and that each call keeps it ===== -/
def pv_IC (da th : Nat → Nat) (ck : Nat → Int32) (rc : Nat) (re rt mb ur eq rl st lo : Nat → Nat) : Prop :=
  (∀ j, da j < 256) ∧ (∀ j, th j < 2) ∧ rc ≤ 4 ∧ (∀ j, re j < 256) ∧ (∀ j, rt j < 2) ∧ (∀ j, mb j < 6) ∧ (∀ j, ur j < 4) ∧ (∀ j, eq j < 256) ∧ (∀ j, rl j < 256) ∧ (∀ j, st j < 3) ∧ (∀ j, lo j < 2) ∧
  (∀ b, b < 6 → st b = pf_st da th ck b) ∧ (∀ b, b < 6 → st b = 0 → ∀ i, i < 8 → da (b * 8 + i) = rl (b * 8 + i)) ∧ (∀ r, r < rc → (rt r = 0 ↔ lo r ≠ 0)) ∧ ∀ r, r < rc → ∀ i, i < 8 → re (r * 8 + i) = pf_rs rl r i 6
section PV
variable {da th : Nat → Nat} {ck : Nat → Int32} {rc : Nat} {re rt mb ur eq rl st lo : Nat → Nat}
theorem pf_st0 {da th : Nat → Nat} {ck : Nat → Int32} {b : Nat} (h : pf_st da th ck b = 0) : th b ≠ 0 ∧ pf_sum da b 8 = ck b := by
  unfold pf_st at h
  by_cases h1 : th b = 0
  · rw [if_pos h1] at h; exact absurd h (by decide)
  · rw [if_neg h1] at h
    by_cases h2 : pf_sum da b 8 = ck b
    · exact ⟨h1, h2⟩
    · rw [if_neg h2] at h; exact absurd h (by decide)
theorem pf_st0' {da th : Nat → Nat} {ck : Nat → Int32} {b : Nat} (h1 : th b ≠ 0) (h2 : pf_sum da b 8 = ck b) : pf_st da th ck b = 0 := by
  unfold pf_st
  rw [if_neg h1, if_pos h2]
/-- a block's state depends on its own bytes alone -/
theorem pf_st_c {da th da' th' : Nat → Nat} {ck ck' : Nat → Int32} {b : Nat} (h1 : th' b = th b) (h2 : ck' b = ck b) (h3 : ∀ i, i < 8 → da' (b * 8 + i) = da (b * 8 + i)) : pf_st da' th' ck' b = pf_st da th ck b := by
  unfold pf_st
  rw [h1, h2, pl_sum 8 h3]
theorem pi_write {b i v : Nat} (I : pv_IC da th ck rc re rt mb ur eq rl st lo) (hb : b < 6) (hi : i < 8) (hv : v < 256) (h : st b = 0) : pv_IC (pa_u da (b * 8 + i) v) th (upd ck b (pf_sum (pa_u da (b * 8 + i) v) b 8)) rc (pf_wr re b i (da (b * 8 + i) ^^^ v) rc) rt mb ur eq (pa_u rl (b * 8 + i) v) st lo := by
  obtain ⟨hda, hth, hrc, hre, hrt, hmb, hur, heq, hrl, hst, hlo, hS, hG, hL, hR⟩ := I
  refine ⟨pa_ub hda hv, hth, hrc, pf_wr_lt hre rc, hrt, hmb, hur, heq, pa_ub hrl hv, hst, hlo, ?_, ?_, hL, ?_⟩
  · intro c hc
    by_cases e : c = b
    · subst e
      have h1 := pf_st0 (da := da) (th := th) (ck := ck) (b := c) (by rw [← hS c hb]; exact h)
      rw [h]
      exact (pf_st0' h1.1 pk_us.symm).symm
    · rw [hS c hc]
      exact (pf_st_c rfl (pk_un e) (fun k hk => pa_un (by omega))).symm
  · intro c hc h0 k hk
    by_cases e : c * 8 + k = b * 8 + i
    · rw [e, pa_us, pa_us]
    · rw [pa_un e, pa_un e]; exact hG c hc h0 k hk
  · intro r hr k hk
    rw [pl_wr hi rc r k hk]
    by_cases e : k = i
    · subst e
      rw [if_pos ⟨hr, rfl⟩, pl_rs_u hrl hv, if_pos hb, hR r hr k hk, hG b hb h k hk]
    · rw [if_neg (fun q => e q.2), hR r hr k hk]
      exact pl_rs 6 (fun c hc => (pa_un (by omega)).symm)
theorem pi_protect {k : Nat} (I : pv_IC da th ck rc re rt mb ur eq rl st lo) (hk : k < 5) (h : pf_ng st 6 = 0) : pv_IC da th ck k (pf_pr da re k) (pf_pt rt k) mb ur eq rl st (pf_z lo 4) := by
  obtain ⟨hda, hth, hrc, hre, hrt, hmb, hur, heq, hrl, hst, hlo, hS, hG, hL, hR⟩ := I
  refine ⟨hda, hth, by omega, pf_pr_lt hre k, pf_pt_lt hrt k, hmb, hur, heq, hrl, hst, ?_, hS, hG, ?_, ?_⟩
  · intro j
    rw [pl_z]
    split
    · decide
    · exact hlo j
  · intro r hr
    rw [pl_pt k r hr, pl_z, if_pos (by omega)]
    exact ⟨fun q => absurd q (by decide), fun q => absurd rfl q⟩
  · intro r hr i hi
    rw [pl_pr k r i hr hi]
    exact pl_rs 6 (fun b hb => hG b hb (pn_zero 6 h b hb) i hi)
theorem pi_lose {b : Nat} (I : pv_IC da th ck rc re rt mb ur eq rl st lo) (hb : b < 6) : pv_IC da (pa_u th b 0) ck rc re rt mb ur eq rl (pa_u st b 1) lo := by
  obtain ⟨hda, hth, hrc, hre, hrt, hmb, hur, heq, hrl, hst, hlo, hS, hG, hL, hR⟩ := I
  refine ⟨hda, pa_ub hth (by decide), hrc, hre, hrt, hmb, hur, heq, hrl, pa_ub hst (by decide), hlo, ?_, ?_, hL, hR⟩
  · intro c hc
    by_cases e : c = b
    · subst e
      rw [pa_us]
      unfold pf_st
      rw [if_pos pa_us]
    · rw [pa_un e, hS c hc]
      exact (pf_st_c (pa_un e) rfl (fun _ _ => rfl)).symm
  · intro c hc h0
    by_cases e : c = b
    · subst e
      rw [pa_us] at h0
      exact absurd h0 (by decide)
    · rw [pa_un e] at h0
      exact hG c hc h0
theorem pi_loseR {k : Nat} (I : pv_IC da th ck rc re rt mb ur eq rl st lo) (hk : k < rc) : pv_IC da th ck rc re (pa_u rt k 0) mb ur eq rl st (pa_u lo k 1) := by
  obtain ⟨hda, hth, hrc, hre, hrt, hmb, hur, heq, hrl, hst, hlo, hS, hG, hL, hR⟩ := I
  refine ⟨hda, hth, hrc, hre, pa_ub hrt (by decide), hmb, hur, heq, hrl, hst, pa_ub hlo (by decide), hS, hG, ?_, hR⟩
  intro r hr
  by_cases e : r = k
  · subst e
    rw [pa_us, pa_us]
    exact ⟨fun _ => by decide, fun _ => rfl⟩
  · rw [pa_un e, pa_un e]
    exact hL r hr
theorem pi_spoil {b i v : Nat} (I : pv_IC da th ck rc re rt mb ur eq rl st lo) (hb : b < 6) (hi : i < 8) (hv : v < 256) (h0 : v ≠ 0) (h : st b = 0) : pf_st (pa_u da (b * 8 + i) (da (b * 8 + i) ^^^ v)) th ck b = 2 ∧ pv_IC (pa_u da (b * 8 + i) (da (b * 8 + i) ^^^ v)) th ck rc re rt mb ur eq rl (pa_u st b 2) lo := by
  obtain ⟨hda, hth, hrc, hre, hrt, hmb, hur, heq, hrl, hst, hlo, hS, hG, hL, hR⟩ := I
  have h1 := pf_st0 (da := da) (th := th) (ck := ck) (b := b) (by rw [← hS b hb]; exact h)
  have h2 : da (b * 8 + i) ≠ da (b * 8 + i) ^^^ v := fun q => h0 (by
    have q2 : da (b * 8 + i) ^^^ da (b * 8 + i) = da (b * 8 + i) ^^^ (da (b * 8 + i) ^^^ v) := congrArg (fun z => da (b * 8 + i) ^^^ z) q
    rw [← Nat.xor_assoc, Nat.xor_self, Nat.zero_xor] at q2
    exact q2.symm)
  have h3 : pf_st (pa_u da (b * 8 + i) (da (b * 8 + i) ^^^ v)) th ck b = 2 := by
    unfold pf_st
    rw [if_neg h1.1, if_neg (by rw [← h1.2]; exact pl_cng hda (pf_xor_lt (hda _) hv) h2 8 hi)]
  refine ⟨h3, pa_ub hda (pf_xor_lt (hda _) hv), hth, hrc, hre, hrt, hmb, hur, heq, hrl, pa_ub hst (by decide), hlo, ?_, ?_, hL, hR⟩
  · intro c hc
    by_cases e : c = b
    · subst e
      rw [pa_us, h3]
    · rw [pa_un e, hS c hc]
      exact (pf_st_c rfl rfl (fun k hk => pa_un (by omega))).symm
  · intro c hc h4 k hk
    by_cases e : c = b
    · subst e
      rw [pa_us] at h4
      exact absurd h4 (by decide)
    · rw [pa_un e] at h4
      rw [pa_un (by omega)]
      exact hG c hc h4 k hk
/-- the list of missing blocks, by the reference's states -/
theorem pi_list {mb0 : Nat → Nat} {ms1 : Nat} {mb1 : Nat → Nat} (hS : ∀ b, b < 6 → st b = pf_st da th ck b) (e1 : ms1 = pf_bad da th ck 6) (e2 : mb1 = pf_lm da th ck mb0 6) : ms1 = pf_ng st 6 ∧ ∀ n, n < 6 → st n ≠ 0 → mb1 (pf_ng st n) = n := by
  have hc : ∀ n, n ≤ 6 → pf_bad da th ck n = pf_ng st n := fun n hn => by
    rw [pn_bad]
    exact pn_congr n (fun k hk => by rw [hS k (by omega)])
  refine ⟨by rw [e1, hc 6 (Nat.le_refl _)], fun n hn h => ?_⟩
  rw [e2, ← hc n (by omega)]
  have h1 := pl_lm (mb := mb0) (da := da) (th := th) (ck := ck) (n := n) (by rw [← hS n hn]; exact h) (6 - (n + 1))
  rw [show n + 1 + (6 - (n + 1)) = 6 by omega] at h1
  exact h1
/-- behind a repair or a giving up every block is good -/
theorem pi_back {ms1 : Nat} {mb1 : Nat → Nat} {v : Nat → Nat → Nat} (hS : ∀ b, b < 6 → st b = pf_st da th ck b) (e1 : ms1 = pf_ng st 6) (hm : ∀ n, n < 6 → st n ≠ 0 → mb1 (pf_ng st n) = n) {b : Nat} (hb : b < 6) : pf_st (pf_qd mb1 v da ms1) (pf_qt mb1 th ms1) (pf_qc mb1 v da ck ms1) b = 0 ∧ (st b ≠ 0 → ∀ i, i < 8 → pf_qd mb1 v da ms1 (b * 8 + i) = v (pf_ng st b) i) ∧ (st b = 0 → ∀ i, i < 8 → pf_qd mb1 v da ms1 (b * 8 + i) = da (b * 8 + i)) := by
  have hd : ∀ i j, i < j → j < ms1 → mb1 i ≠ mb1 j := fun i j h1 h2 => by
    have := pl_inc (p := st) (f := mb1) (N := 6) (M := ms1) (by omega) (fun n h3 h4 _ => hm n h3 h4) h1 h2
    omega
  by_cases h : st b = 0
  · have hout : ∀ j, j < ms1 → mb1 j ≠ b := fun j hj q => by
      have := (pl_inv (p := st) (f := mb1) (N := 6) (M := ms1) (by omega) (fun n h3 h4 _ => hm n h3 h4) hj).2.1
      rw [q] at this
      exact this h
    refine ⟨?_, fun q => absurd h q, fun _ i hi => pl_qd_out hi ms1 hout⟩
    rw [pf_st_c (pl_qt_out ms1 hout) (pl_qc_out ms1 hout) (fun i hi => pl_qd_out hi ms1 hout), ← hS b hb, h]
  · have hj : pf_ng st b < ms1 := by rw [e1]; exact pn_lt hb h
    have hmb := hm b hb h
    refine ⟨pf_st0' ?_ ?_, fun _ i hi => ?_, fun q => absurd q h⟩
    · have h1 := pl_qt_in (mb := mb1) (th := th) ms1 _ hj
      rw [hmb] at h1
      rw [h1]
      decide
    · have h1 := pl_qc_in (mb := mb1) (v := v) (da := da) (ck := ck) ms1 hd _ hj
      rw [hmb] at h1
      exact h1.symm
    · have h1 := pl_qd_in (mb := mb1) (v := v) (da := da) hi ms1 hd _ hj
      rw [hmb] at h1
      exact h1
theorem pi_giveUp {ms1 : Nat} {mb1 : Nat → Nat} (I : pv_IC da th ck rc re rt mb ur eq rl st lo) (e1 : ms1 = pf_bad da th ck 6) (e2 : mb1 = pf_lm da th ck mb 6) : ms1 = pf_ng st 6 ∧ pv_IC (pf_qd mb1 (fun _ _ => 0) da ms1) (pf_qt mb1 th ms1) (pf_qc mb1 (fun _ _ => 0) da ck ms1) 0 re rt mb1 ur eq (pf_zr st rl 48) (pf_z st 6) lo := by
  obtain ⟨hda, hth, hrc, hre, hrt, hmb, hur, heq, hrl, hst, hlo, hS, hG, hL, hR⟩ := I
  obtain ⟨h1, h2⟩ := pi_list hS e1 e2
  refine ⟨h1, pf_qd_lt hda (fun _ _ => by decide) ms1, pf_qt_lt hth ms1, by omega, hre, hrt, ?_, hur, heq, ?_, ?_, hlo, ?_, ?_, ?_, ?_⟩
  · rw [e2]; exact pf_lm_lt hmb 6 (Nat.le_refl _)
  · intro j
    rw [pl_zr]
    split
    · decide
    · exact hrl j
  · intro j
    rw [pl_z]
    split
    · decide
    · exact hst j
  · intro b hb
    rw [pl_z, if_pos hb, (pi_back hS h1 h2 hb).1]
  · intro b hb _ i hi
    rw [pl_zr]
    obtain ⟨-, g1, g2⟩ := pi_back (v := fun _ _ => 0) hS h1 h2 hb
    have e : (b * 8 + i) / 8 = b := by omega
    rw [e]
    by_cases h : st b = 0
    · rw [if_neg (fun q => q.2 h), g2 h i hi]
      exact hG b hb h i hi
    · rw [if_pos ⟨by omega, h⟩, g1 h i hi]
  · intro r hr; exact absurd hr (by omega)
  · intro r hr; exact absurd hr (by omega)
theorem pi_repair {ms1 : Nat} {mb1 ur1 eq1 eq2 : Nat → Nat} (I : pv_IC da th ck rc re rt mb ur eq rl st lo) (e1 : ms1 = pf_bad da th ck 6) (e2 : mb1 = pf_lm da th ck mb 6) (h : ms1 ≤ pf_good rt rc) (e3 : ur1 = pf_us rt ms1 ur rc) (e4 : eq1 = pf_se da re ms1 mb1 ur1 eq ms1) (e5 : eq2 = pf_ro ms1 eq1 ms1) :
    (∀ k, k < ms1 → pf_ro ms1 eq1 k (k * 12 + k) ≠ 0) ∧ pv_IC (pf_qd mb1 (fun j z => eq2 (j * 12 + ms1 + z)) da ms1) (pf_qt mb1 th ms1) (pf_qc mb1 (fun j z => eq2 (j * 12 + ms1 + z)) da ck ms1) rc (pf_pr (pf_qd mb1 (fun j z => eq2 (j * 12 + ms1 + z)) da ms1) re rc) (pf_pt rt rc) mb1 ur1 eq2 rl (pf_z st 6) (pf_z lo 4) := by
  obtain ⟨hda, hth, hrc, hre, hrt, hmb, hur, heq, hrl, hst, hlo, hS, hG, hL, hR⟩ := I
  obtain ⟨h1, h2⟩ := pi_list hS e1 e2
  have hgl := pf_good_le rt rc
  have hms : ms1 ≤ 4 := by omega
  have hmb1 : ∀ j, mb1 j < 6 := by rw [e2]; exact pf_lm_lt hmb 6 (Nat.le_refl _)
  have hur1 : ∀ j, ur1 j < 4 := by rw [e3]; exact pf_us_lt hur rc hrc
  have heq1 : ∀ j, eq1 j < 256 := by rw [e4]; exact pf_se_lt hre heq ms1
  have heq2 : ∀ j, eq2 j < 256 := by rw [e5]; exact pf_ro_lt heq1 ms1
  have hmf : ∀ n, n < 6 → st n ≠ 0 → pf_ng st n < ms1 → mb1 (pf_ng st n) = n := fun n h3 h4 _ => h2 n h3 h4
  have huf : ∀ r, r < rc → rt r ≠ 0 → pf_ng rt r < ms1 → ur1 (pf_ng rt r) = r := fun r h3 h4 h5 => by
    have h6 := pl_us (ur := ur) (ms := ms1) h4 (by rw [pn_good]; exact h5) (rc - (r + 1))
    rw [show r + 1 + (rc - (r + 1)) = rc by omega, pn_good] at h6
    rw [e3]
    exact h6
  have hgn : ms1 ≤ pf_ng rt rc := by rw [← pn_good]; exact h
  have hse := fun g hg => pl_se (da := da) (re := re) (mb := mb1) (ur := ur1) (eq := eq) hms ms1 g hg
  rw [← e4] at hse
  have hpv : ∀ k, k < ms1 → pf_ro ms1 eq1 k (k * 12 + k) ≠ 0 :=
    ps_all (u := ur1) (b := mb1) hms heq1 (fun j _ => hur1 j) (fun j _ => hmb1 j) (fun i j h3 h4 => pl_inc (p := rt) (N := rc) hgn huf h3 h4) (fun i j h3 h4 => pl_inc (p := st) (N := 6) (by omega) hmf h3 h4) (fun g j h3 h4 => (hse g h3).1 j h4)
  have him : ∀ b, b < 6 → (pf_im mb1 b ms1 = 0 ↔ st b = 0) := fun b hb => by
    by_cases e : st b = 0
    · refine ⟨fun _ => e, fun _ => pf_im_0 ms1 (fun j hj q => ?_)⟩
      have := (pl_inv (p := st) (f := mb1) (N := 6) (M := ms1) (by omega) hmf hj).2.1
      rw [q] at this
      exact this e
    · have h3 := pf_im_1 (h2 b hb e) ms1 (by rw [h1]; exact pn_lt hb e)
      exact ⟨fun q => by rw [h3] at q; exact absurd q (by decide), fun q => absurd q e⟩
  have hsol : ∀ i, i < 8 → pe_Sol ms1 eq1 (fun j => rl (mb1 j * 8 + i)) i := by
    intro i hi g hg
    obtain ⟨hr1, -, -⟩ := pl_inv (p := rt) (f := ur1) hgn huf hg
    rw [(hse g hg).2 i hi, pe_s_congr (g := fun j => pf_mul (pf_fac (ur1 g) (mb1 j)) (rl (mb1 j * 8 + i))) ms1 (fun j hj => by rw [(hse g hg).1 j hj])]
    have h4 := pl_rst (da := da) (re := re) (rl := rl) (ms := ms1) (mb := mb1) (st := st) (r := ur1 g) (i := i) (hR _ hr1 i hi) him (fun b hb h5 => hG b hb h5 i hi) h2 6 (Nat.le_refl _)
    rw [Nat.xor_self, ← h1] at h4
    exact (pl_x0 h4).symm
  have hval : ∀ j i, j < ms1 → i < 8 → eq2 (j * 12 + ms1 + i) = rl (mb1 j * 8 + i) := by
    intro j i hj hi
    rw [e5, Nat.add_assoc]
    exact pe_done hms hi heq1 (fun _ => hrl _) (hsol i hi) hpv hj
  have hall : ∀ b, b < 6 → ∀ i, i < 8 → pf_qd mb1 (fun j z => eq2 (j * 12 + ms1 + z)) da ms1 (b * 8 + i) = rl (b * 8 + i) := by
    intro b hb i hi
    obtain ⟨-, g1, g2⟩ := pi_back (v := fun j z => eq2 (j * 12 + ms1 + z)) hS h1 h2 hb
    by_cases e : st b = 0
    · rw [g2 e i hi]; exact hG b hb e i hi
    · rw [g1 e i hi]
      show eq2 (pf_ng st b * 12 + ms1 + i) = _
      rw [hval _ i (by rw [h1]; exact pn_lt hb e) hi, h2 b hb e]
  have hda' := pf_qd_lt (mb := mb1) (v := fun j z => eq2 (j * 12 + ms1 + z)) hda (fun _ _ => heq2 _) ms1
  refine ⟨hpv, hda', pf_qt_lt hth ms1, hrc, pf_pr_lt hre rc, pf_pt_lt hrt rc, hmb1, hur1, heq2, hrl, ?_, ?_, ?_, ?_, ?_, ?_⟩
  · intro j
    rw [pl_z]
    split
    · decide
    · exact hst j
  · intro j
    rw [pl_z]
    split
    · decide
    · exact hlo j
  · intro b hb
    rw [pl_z, if_pos hb, (pi_back hS h1 h2 hb).1]
  · intro b hb _ i hi
    exact hall b hb i hi
  · intro r hr
    rw [pl_pt rc r hr, pl_z, if_pos (by omega)]
    exact ⟨fun q => absurd q (by decide), fun q => absurd rfl q⟩
  · intro r hr i hi
    rw [pl_pr rc r i hr hi]
    exact pl_rs 6 (fun b hb => hall b hb i hi)
end PV
end
section
set_option maxRecDepth 100000
abbrev pv_T : Type := (Nat → Nat) × (Nat → Nat) × (Nat → Int32) × Nat × (Nat → Nat) × (Nat → Nat) × Nat × (Nat → Nat) × (Nat → Nat) × (Nat → Nat) × (Nat → Nat) × (Nat → Nat) × (Nat → Nat)
abbrev pv_X (a : Nat → Nat) (cI cZ : ClassId) (σ : pv_T) : va_W := WX a cI cZ pf_P pf_E (σ.1) (σ.2.1) (σ.2.2.1) (σ.2.2.2.1) (σ.2.2.2.2.1) (σ.2.2.2.2.2.1) (σ.2.2.2.2.2.2.1) (σ.2.2.2.2.2.2.2.1) (σ.2.2.2.2.2.2.2.2.1) (σ.2.2.2.2.2.2.2.2.2.1)
abbrev pv_M (a : Nat → Nat) (cI cZ : ClassId) (σ : pv_T) : va_W := WM a cI cZ (σ.2.2.2.2.2.2.2.2.2.2.1) (σ.2.2.2.2.2.2.2.2.2.2.2.1) (σ.2.2.2.1) (σ.2.2.2.2.2.2.2.2.2.2.2.2)
def pv_I (σ : pv_T) : Prop := pv_IC (σ.1) (σ.2.1) (σ.2.2.1) (σ.2.2.2.1) (σ.2.2.2.2.1) (σ.2.2.2.2.2.1) (σ.2.2.2.2.2.2.2.1) (σ.2.2.2.2.2.2.2.2.1) (σ.2.2.2.2.2.2.2.2.2.1) (σ.2.2.2.2.2.2.2.2.2.2.1) (σ.2.2.2.2.2.2.2.2.2.2.2.1) (σ.2.2.2.2.2.2.2.2.2.2.2.2)
/-- the two methods answer alike, and behind them the two sides agree again -/
def pv_J (l : Launch) (D : va_G) (a b : Nat → Nat) (cI cZ : ClassId) (yX : MethodName) (cX : ByteArray) (nX : Nat) (rX : Room) (yM : MethodName) (cM : ByteArray) (nM : Nat) (rM : Room) (As : List Value) (σ : pv_T) : Prop :=
  ∃ (ans : Int32) (τ : pv_T), pv_I τ ∧ Met l yX (ws_ yX cX nX (some .int)) rX (PcX D clA [(cI, .int), (cZ, .boolean)] (.ref (a 0) :: As) (pv_X a cI cZ σ)) (QcXi ans D clA (pv_X a cI cZ τ) (pa_A 11 a)) 0 0 (pa_A 11 a) ∧ Met l yM (ws_ yM cM nM (some .int)) rM (PcX D clA [(cI, .int), (cZ, .boolean)] (.ref (b 0) :: As) (pv_M b cI cZ σ)) (QcXi ans D clA (pv_M b cI cZ τ) (pa_A 4 b)) 0 0 (pa_A 4 b)
/-- the same of methods that only read -/
def pv_R (l : Launch) (D : va_G) (a b : Nat → Nat) (cI cZ : ClassId) (yX : MethodName) (cX : ByteArray) (nX : Nat) (rX : Room) (yM : MethodName) (cM : ByteArray) (nM : Nat) (rM : Room) (As : List Value) (σ : pv_T) : Prop :=
  ∃ (ans : Int32), Met l yX (ws_ yX cX nX (some .int)) rX (PcX D clA [(cI, .int), (cZ, .boolean)] (.ref (a 0) :: As) (pv_X a cI cZ σ)) (QcRead ans) 0 0 (fun _ => False) ∧ Met l yM (ws_ yM cM nM (some .int)) rM (PcX D clA [(cI, .int), (cZ, .boolean)] (.ref (b 0) :: As) (pv_M b cI cZ σ)) (QcRead ans) 0 0 (fun _ => False)
theorem j_write (l : Launch) {D : va_G} {a b : Nat → Nat} {cI cZ : ClassId} (hN : pa_N 11 a) (hM : pa_N 4 b) {σ : pv_T} (I : pv_I σ) (bk : Int32) (pl : Int32) (vl : Int32) : pv_J l D a b cI cZ yX0_write cX0_write 9 (pa_rm 2 45) yX1_write cX1_write 6 (pa_rm 1 23) [.int bk, .int pl, .int vl] σ := by
  obtain ⟨da, th, ck, rc, re, rt, ms, mb, ur, eq, rl, st, lo⟩ := σ
  have I : pv_IC da th ck rc re rt mb ur eq rl st lo := I
  obtain ⟨hda, hth, hrc, hre, hrt, hmb, hur, heq, hrl, hst, hlo, hS, hG, hL, hR⟩ := id I
  rcases pk_ix bk (n := 6) (by decide) with h | h | ⟨c, hc, rfl⟩
  · exact ⟨-1, (da, th, ck, rc, re, rt, ms, mb, ur, eq, rl, st, lo), I, m_write_1 l hN (Or.inl h), r_write_1 l hM (Or.inl h)⟩
  · exact ⟨-1, (da, th, ck, rc, re, rt, ms, mb, ur, eq, rl, st, lo), I, m_write_1 l hN (Or.inr h), r_write_1 l hM (Or.inr h)⟩
  rcases pk_ix pl (n := 8) (by decide) with h | h | ⟨i, hi, rfl⟩
  · exact ⟨-2, (da, th, ck, rc, re, rt, ms, mb, ur, eq, rl, st, lo), I, m_write_2 l hN hc (Or.inl h), r_write_2 l hM hc (Or.inl h)⟩
  · exact ⟨-2, (da, th, ck, rc, re, rt, ms, mb, ur, eq, rl, st, lo), I, m_write_2 l hN hc (Or.inr h), r_write_2 l hM hc (Or.inr h)⟩
  rcases pk_ix vl (n := 256) (by decide) with h | h | ⟨v, hv, rfl⟩
  · exact ⟨-3, (da, th, ck, rc, re, rt, ms, mb, ur, eq, rl, st, lo), I, m_write_3 l hN hc hi (Or.inl h), r_write_3 l hM hc hi (Or.inl h)⟩
  · exact ⟨-3, (da, th, ck, rc, re, rt, ms, mb, ur, eq, rl, st, lo), I, m_write_3 l hN hc hi (Or.inr h), r_write_3 l hM hc hi (Or.inr h)⟩
  by_cases h : st c = 0
  · have hX := m_write_5 (D := D) (a := a) (cI := cI) (cZ := cZ) (rt := rt) (ms := ms) (mb := mb) (ur := ur) (eq := eq) l hN hda hth hre hrc hc hi hv (show pf_st da th ck c = 0 by rw [← hS c hc]; exact h)
    have hY := r_write_5 (D := D) (cI := cI) (cZ := cZ) (rl := rl) (rc := rc) (lo := lo) l hM hst hc hi hv h
    rw [← hG c hc h i hi] at hY
    exact ⟨nI (da (c * 8 + i)), (pa_u da (c * 8 + i) v, th, upd ck c (pf_sum (pa_u da (c * 8 + i) v) c 8), rc, pf_wr re c i (da (c * 8 + i) ^^^ v) rc, rt, ms, mb, ur, eq, pa_u rl (c * 8 + i) v, st, lo), pi_write I hc hi hv h, hX, hY⟩
  · exact ⟨-4, (da, th, ck, rc, re, rt, ms, mb, ur, eq, rl, st, lo), I, m_write_4 l hN hth hc hi hv (by rw [← hS c hc]; exact h), r_write_4 l hM hst hc hi hv h⟩
theorem j_protect (l : Launch) {D : va_G} {a b : Nat → Nat} {cI cZ : ClassId} (hN : pa_N 11 a) (hM : pa_N 4 b) {σ : pv_T} (I : pv_I σ) (mm : Int32) : pv_J l D a b cI cZ yX0_protect cX0_protect 4 (pa_rm 3 68) yX1_protect cX1_protect 3 (pa_rm 1 22) [.int mm] σ := by
  obtain ⟨da, th, ck, rc, re, rt, ms, mb, ur, eq, rl, st, lo⟩ := σ
  have I : pv_IC da th ck rc re rt mb ur eq rl st lo := I
  obtain ⟨hda, hth, hrc, hre, hrt, hmb, hur, heq, hrl, hst, hlo, hS, hG, hL, hR⟩ := id I
  have hbn : pf_bad da th ck 6 = pf_ng st 6 := (pi_list (mb0 := mb) hS rfl rfl).1
  rcases pk_ix mm (n := 5) (by decide) with h | h | ⟨k, hk, rfl⟩
  · exact ⟨-3, (da, th, ck, rc, re, rt, ms, mb, ur, eq, rl, st, lo), I, m_protect_1 l hN (Or.inl h), r_protect_1 l hM (Or.inl h)⟩
  · exact ⟨-3, (da, th, ck, rc, re, rt, ms, mb, ur, eq, rl, st, lo), I, m_protect_1 l hN (Or.inr h), r_protect_1 l hM (Or.inr h)⟩
  by_cases h : pf_ng st 6 = 0
  · exact ⟨nI k, (da, th, ck, k, pf_pr da re k, pf_pt rt k, ms, mb, ur, eq, rl, st, pf_z lo 4), pi_protect I hk h, m_protect_3 l hN hda hth hk (by rw [hbn]; exact h), r_protect_3 l hM hst hk h⟩
  · have h1 : 0 < pf_bad da th ck 6 := by omega
    have h2 : 0 < pf_ng st 6 := by omega
    exact ⟨-4, (da, th, ck, rc, re, rt, ms, mb, ur, eq, rl, st, lo), I, m_protect_2 l hN hth hk h1, r_protect_2 l hM hst hk h2⟩
theorem j_lose (l : Launch) {D : va_G} {a b : Nat → Nat} {cI cZ : ClassId} (hN : pa_N 11 a) (hM : pa_N 4 b) {σ : pv_T} (I : pv_I σ) (bk : Int32) : pv_J l D a b cI cZ yX0_lose cX0_lose 3 (pa_rm 2 45) yX1_lose cX1_lose 3 (pa_rm 0 0) [.int bk] σ := by
  obtain ⟨da, th, ck, rc, re, rt, ms, mb, ur, eq, rl, st, lo⟩ := σ
  have I : pv_IC da th ck rc re rt mb ur eq rl st lo := I
  obtain ⟨hda, hth, hrc, hre, hrt, hmb, hur, heq, hrl, hst, hlo, hS, hG, hL, hR⟩ := id I
  rcases pk_ix bk (n := 6) (by decide) with h | h | ⟨c, hc, rfl⟩
  · exact ⟨-1, (da, th, ck, rc, re, rt, ms, mb, ur, eq, rl, st, lo), I, m_lose_1 l hN (Or.inl h), r_lose_1 l hM (Or.inl h)⟩
  · exact ⟨-1, (da, th, ck, rc, re, rt, ms, mb, ur, eq, rl, st, lo), I, m_lose_1 l hN (Or.inr h), r_lose_1 l hM (Or.inr h)⟩
  have hX := m_lose_2 (D := D) (a := a) (cI := cI) (cZ := cZ) (da := da) (ck := ck) (rc := rc) (re := re) (rt := rt) (ms := ms) (mb := mb) (ur := ur) (eq := eq) l hN hth hc
  rw [← hS c hc] at hX
  exact ⟨nI (st c), (da, pa_u th c 0, ck, rc, re, rt, ms, mb, ur, eq, rl, pa_u st c 1, lo), pi_lose I hc, hX, r_lose_2 l hM hc⟩
theorem j_loseRecovery (l : Launch) {D : va_G} {a b : Nat → Nat} {cI cZ : ClassId} (hN : pa_N 11 a) (hM : pa_N 4 b) {σ : pv_T} (I : pv_I σ) (rr : Int32) : pv_J l D a b cI cZ yX0_loseRecovery cX0_loseRecovery 3 (pa_rm 0 0) yX1_loseRecovery cX1_loseRecovery 3 (pa_rm 0 0) [.int rr] σ := by
  obtain ⟨da, th, ck, rc, re, rt, ms, mb, ur, eq, rl, st, lo⟩ := σ
  have I : pv_IC da th ck rc re rt mb ur eq rl st lo := I
  obtain ⟨hda, hth, hrc, hre, hrt, hmb, hur, heq, hrl, hst, hlo, hS, hG, hL, hR⟩ := id I
  rcases pk_ix rr (n := rc) (by omega) with h | h | ⟨k, hk, rfl⟩
  · exact ⟨-5, (da, th, ck, rc, re, rt, ms, mb, ur, eq, rl, st, lo), I, m_loseRecovery_1 l hN hrc (Or.inl h), r_loseRecovery_1 l hM hrc (Or.inl h)⟩
  · exact ⟨-5, (da, th, ck, rc, re, rt, ms, mb, ur, eq, rl, st, lo), I, m_loseRecovery_1 l hN hrc (Or.inr h), r_loseRecovery_1 l hM hrc (Or.inr h)⟩
  have e : (if rt k = 0 then 1 else 0) = (if lo k = 0 then 0 else 1) := by
    have h1 := hL k hk
    by_cases h2 : rt k = 0
    · rw [if_pos h2, if_neg (h1.mp h2)]
    · have h3 : lo k = 0 := by
        by_cases z : lo k = 0
        · exact z
        · exact absurd (h1.mpr z) h2
      rw [if_neg h2, if_pos h3]
  have hX := m_loseRecovery_2 (D := D) (a := a) (cI := cI) (cZ := cZ) (da := da) (th := th) (ck := ck) (re := re) (ms := ms) (mb := mb) (ur := ur) (eq := eq) l hN hrc hrt hk
  rw [e] at hX
  exact ⟨nI (if lo k = 0 then 0 else 1), (da, th, ck, rc, re, pa_u rt k 0, ms, mb, ur, eq, rl, st, pa_u lo k 1), pi_loseR I hk, hX, r_loseRecovery_2 l hM hrc hlo hk⟩
theorem j_spoil (l : Launch) {D : va_G} {a b : Nat → Nat} {cI cZ : ClassId} (hN : pa_N 11 a) (hM : pa_N 4 b) {σ : pv_T} (I : pv_I σ) (bk : Int32) (pl : Int32) (bt : Int32) : pv_J l D a b cI cZ yX0_spoil cX0_spoil 5 (pa_rm 2 45) yX1_spoil cX1_spoil 5 (pa_rm 1 23) [.int bk, .int pl, .int bt] σ := by
  obtain ⟨da, th, ck, rc, re, rt, ms, mb, ur, eq, rl, st, lo⟩ := σ
  have I : pv_IC da th ck rc re rt mb ur eq rl st lo := I
  obtain ⟨hda, hth, hrc, hre, hrt, hmb, hur, heq, hrl, hst, hlo, hS, hG, hL, hR⟩ := id I
  rcases pk_ix bk (n := 6) (by decide) with h | h | ⟨c, hc, rfl⟩
  · exact ⟨-1, (da, th, ck, rc, re, rt, ms, mb, ur, eq, rl, st, lo), I, m_spoil_1 l hN (Or.inl h), r_spoil_1 l hM (Or.inl h)⟩
  · exact ⟨-1, (da, th, ck, rc, re, rt, ms, mb, ur, eq, rl, st, lo), I, m_spoil_1 l hN (Or.inr h), r_spoil_1 l hM (Or.inr h)⟩
  rcases pk_ix pl (n := 8) (by decide) with h | h | ⟨i, hi, rfl⟩
  · exact ⟨-2, (da, th, ck, rc, re, rt, ms, mb, ur, eq, rl, st, lo), I, m_spoil_2 l hN hc (Or.inl h), r_spoil_2 l hM hc (Or.inl h)⟩
  · exact ⟨-2, (da, th, ck, rc, re, rt, ms, mb, ur, eq, rl, st, lo), I, m_spoil_2 l hN hc (Or.inr h), r_spoil_2 l hM hc (Or.inr h)⟩
  obtain ⟨v, hv, hbv⟩ := pk_andE bt (m := nI 255) 8 (by decide)
  have hv : v < 256 := hv
  by_cases h : st c = 0
  · have hX := m_spoil_4 (D := D) (a := a) (cI := cI) (cZ := cZ) (rc := rc) (re := re) (rt := rt) (ms := ms) (mb := mb) (ur := ur) (eq := eq) l hN hth hc hi hbv (show pf_st da th ck c = 0 by rw [← hS c hc]; exact h)
    by_cases hz : v = 0
    · have e : pa_u da (c * 8 + i) (da (c * 8 + i) ^^^ v) = da := by
        rw [hz, Nat.xor_zero]
        funext j
        by_cases q : j = c * 8 + i
        · rw [q]; exact pa_us
        · exact pa_un q
      rw [e, ← hS c hc, h] at hX
      exact ⟨nI 0, (da, th, ck, rc, re, rt, ms, mb, ur, eq, rl, st, lo), I, hX, r_spoil_4 l hM hst hc hi hv hbv h hz⟩
    · obtain ⟨h1, h2⟩ := pi_spoil I hc hi hv hz h
      rw [h1] at hX
      exact ⟨nI 2, (pa_u da (c * 8 + i) (da (c * 8 + i) ^^^ v), th, ck, rc, re, rt, ms, mb, ur, eq, rl, pa_u st c 2, lo), h2, hX, r_spoil_5 l hM hst hc hi hv hbv h hz⟩
  · exact ⟨-4, (da, th, ck, rc, re, rt, ms, mb, ur, eq, rl, st, lo), I, m_spoil_3 l hN hth hc hi (by rw [← hS c hc]; exact h), r_spoil_3 l hM hst hc hi h⟩
theorem j_repair (l : Launch) {D : va_G} {a b : Nat → Nat} {cI cZ : ClassId} (hN : pa_N 11 a) (hM : pa_N 4 b) {σ : pv_T} (I : pv_I σ) : pv_J l D a b cI cZ yX0_repair cX0_repair 3 (pa_rm 4 93) yX1_repair cX1_repair 3 (pa_rm 1 22) [] σ := by
  obtain ⟨da, th, ck, rc, re, rt, ms, mb, ur, eq, rl, st, lo⟩ := σ
  have I : pv_IC da th ck rc re rt mb ur eq rl st lo := I
  obtain ⟨hda, hth, hrc, hre, hrt, hmb, hur, heq, hrl, hst, hlo, hS, hG, hL, hR⟩ := id I
  have hbn : pf_bad da th ck 6 = pf_ng st 6 := (pi_list (mb0 := mb) hS rfl rfl).1
  have hsp : pf_good rt rc = pf_sp lo rc := pn_sp rc hL
  obtain ⟨ms1, e1⟩ : ∃ z, z = pf_bad da th ck 6 := ⟨_, rfl⟩
  obtain ⟨mb1, e2⟩ : ∃ z, z = pf_lm da th ck mb 6 := ⟨_, rfl⟩
  by_cases h : ms1 ≤ pf_good rt rc
  · obtain ⟨ur1, e3⟩ : ∃ z, z = pf_us rt ms1 ur rc := ⟨_, rfl⟩
    obtain ⟨eq1, e4⟩ : ∃ z, z = pf_se da re ms1 mb1 ur1 eq ms1 := ⟨_, rfl⟩
    obtain ⟨eq2, e5⟩ : ∃ z, z = pf_ro ms1 eq1 ms1 := ⟨_, rfl⟩
    obtain ⟨hpv, hI⟩ := pi_repair I e1 e2 h e3 e4 e5
    have hY := r_repair_2 (D := D) (cI := cI) (cZ := cZ) (rl := rl) l hM hst hlo hrc (show pf_ng st 6 ≤ pf_sp lo rc by rw [← hbn, ← hsp, ← e1]; exact h)
    rw [← hbn, ← e1] at hY
    exact ⟨nI ms1, (pf_qd mb1 (fun j z => eq2 (j * 12 + ms1 + z)) da ms1, pf_qt mb1 th ms1, pf_qc mb1 (fun j z => eq2 (j * 12 + ms1 + z)) da ck ms1, rc, pf_pr (pf_qd mb1 (fun j z => eq2 (j * 12 + ms1 + z)) da ms1) re rc, pf_pt rt rc, ms1, mb1, ur1, eq2, rl, pf_z st 6, pf_z lo 4), hI, m_repair_2 l hN hth hrt hrc e1 e2 hda hre heq hmb hur h e3 e4 e5 hpv, hY⟩
  · have hI : pv_IC da th ck rc re rt mb1 ur eq rl st lo := ⟨hda, hth, hrc, hre, hrt, by rw [e2]; exact pf_lm_lt hmb 6 (Nat.le_refl _), hur, heq, hrl, hst, hlo, hS, hG, hL, hR⟩
    have h1 : pf_good rt rc < ms1 := by omega
    have h2 : pf_sp lo rc < pf_ng st 6 := by omega
    exact ⟨-6, (da, th, ck, rc, re, rt, ms1, mb1, ur, eq, rl, st, lo), hI, m_repair_1 l hN hth hrt hrc e1 e2 h1, r_repair_1 l hM hst hlo hrc h2⟩
theorem j_giveUp (l : Launch) {D : va_G} {a b : Nat → Nat} {cI cZ : ClassId} (hN : pa_N 11 a) (hM : pa_N 4 b) {σ : pv_T} (I : pv_I σ) : pv_J l D a b cI cZ yX0_giveUp cX0_giveUp 4 (pa_rm 3 67) yX1_giveUp cX1_giveUp 3 (pa_rm 1 22) [] σ := by
  obtain ⟨da, th, ck, rc, re, rt, ms, mb, ur, eq, rl, st, lo⟩ := σ
  have I : pv_IC da th ck rc re rt mb ur eq rl st lo := I
  obtain ⟨hda, hth, hrc, hre, hrt, hmb, hur, heq, hrl, hst, hlo, hS, hG, hL, hR⟩ := id I
  obtain ⟨ms1, e1⟩ : ∃ z, z = pf_bad da th ck 6 := ⟨_, rfl⟩
  obtain ⟨mb1, e2⟩ : ∃ z, z = pf_lm da th ck mb 6 := ⟨_, rfl⟩
  obtain ⟨h1, hI⟩ := pi_giveUp I e1 e2
  have hY := r_giveUp (D := D) (cI := cI) (cZ := cZ) (rl := rl) (rc := rc) (lo := lo) l hM hst
  rw [← h1] at hY
  exact ⟨nI ms1, (pf_qd mb1 (fun _ _ => 0) da ms1, pf_qt mb1 th ms1, pf_qc mb1 (fun _ _ => 0) da ck ms1, 0, re, rt, ms1, mb1, ur, eq, pf_zr st rl 48, pf_z st 6, lo), hI, m_giveUp l hN hth hmb e1 e2, hY⟩
theorem j_read (l : Launch) {D : va_G} {a b : Nat → Nat} {cI cZ : ClassId} {σ : pv_T} (I : pv_I σ) (bk : Int32) (pl : Int32) : pv_R l D a b cI cZ yX0_read cX0_read 4 (pa_rm 2 45) yX1_read cX1_read 4 (pa_rm 1 23) [.int bk, .int pl] σ := by
  obtain ⟨da, th, ck, rc, re, rt, ms, mb, ur, eq, rl, st, lo⟩ := σ
  have I : pv_IC da th ck rc re rt mb ur eq rl st lo := I
  obtain ⟨hda, hth, hrc, hre, hrt, hmb, hur, heq, hrl, hst, hlo, hS, hG, hL, hR⟩ := id I
  rcases pk_ix bk (n := 6) (by decide) with h | h | ⟨c, hc, rfl⟩
  · exact ⟨-1, m_read_1 l (Or.inl h), r_read_1 l (Or.inl h)⟩
  · exact ⟨-1, m_read_1 l (Or.inr h), r_read_1 l (Or.inr h)⟩
  rcases pk_ix pl (n := 8) (by decide) with h | h | ⟨i, hi, rfl⟩
  · exact ⟨-2, m_read_2 l hc (Or.inl h), r_read_2 l hc (Or.inl h)⟩
  · exact ⟨-2, m_read_2 l hc (Or.inr h), r_read_2 l hc (Or.inr h)⟩
  by_cases h : st c = 0
  · have hY := r_read_4 (D := D) (a := b) (cI := cI) (cZ := cZ) (rl := rl) (rc := rc) (lo := lo) l hst hc hi h
    rw [← hG c hc h i hi] at hY
    exact ⟨nI (da (c * 8 + i)), m_read_4 l hth hc hi (by rw [← hS c hc]; exact h), hY⟩
  · exact ⟨-4, m_read_3 l hth hc hi (by rw [← hS c hc]; exact h), r_read_3 l hst hc hi h⟩
theorem j_state (l : Launch) {D : va_G} {a b : Nat → Nat} {cI cZ : ClassId} {σ : pv_T} (I : pv_I σ) (bk : Int32) : pv_R l D a b cI cZ yX0_state cX0_state 2 (pa_rm 2 45) yX1_state cX1_state 2 (pa_rm 0 0) [.int bk] σ := by
  obtain ⟨da, th, ck, rc, re, rt, ms, mb, ur, eq, rl, st, lo⟩ := σ
  have I : pv_IC da th ck rc re rt mb ur eq rl st lo := I
  obtain ⟨hda, hth, hrc, hre, hrt, hmb, hur, heq, hrl, hst, hlo, hS, hG, hL, hR⟩ := id I
  rcases pk_ix bk (n := 6) (by decide) with h | h | ⟨c, hc, rfl⟩
  · exact ⟨-1, m_state_1 l (Or.inl h), r_state_1 l (Or.inl h)⟩
  · exact ⟨-1, m_state_1 l (Or.inr h), r_state_1 l (Or.inr h)⟩
  have hX := m_state_2 (D := D) (a := a) (cI := cI) (cZ := cZ) (da := da) (ck := ck) (rc := rc) (re := re) (rt := rt) (ms := ms) (mb := mb) (ur := ur) (eq := eq) l hth hc
  rw [← hS c hc] at hX
  exact ⟨nI (st c), hX, r_state_2 l hc⟩
theorem j_spare (l : Launch) {D : va_G} {a b : Nat → Nat} {cI cZ : ClassId} {σ : pv_T} (I : pv_I σ) : pv_R l D a b cI cZ yX0_spare cX0_spare 1 (pa_rm 1 22) yX1_spare cX1_spare 3 (pa_rm 0 0) [] σ := by
  obtain ⟨da, th, ck, rc, re, rt, ms, mb, ur, eq, rl, st, lo⟩ := σ
  have I : pv_IC da th ck rc re rt mb ur eq rl st lo := I
  obtain ⟨hda, hth, hrc, hre, hrt, hmb, hur, heq, hrl, hst, hlo, hS, hG, hL, hR⟩ := id I
  have hY := r_spare (D := D) (a := b) (cI := cI) (cZ := cZ) (rl := rl) (st := st) l hlo hrc
  rw [← pn_sp rc hL] at hY
  exact ⟨nI (pf_good rt rc), m_spare l hrt hrc, hY⟩
theorem j_margin (l : Launch) {D : va_G} {a b : Nat → Nat} {cI cZ : ClassId} {σ : pv_T} (I : pv_I σ) : pv_R l D a b cI cZ yX0_margin cX0_margin 4 (pa_rm 3 68) yX1_margin cX1_margin 3 (pa_rm 1 22) [] σ := by
  obtain ⟨da, th, ck, rc, re, rt, ms, mb, ur, eq, rl, st, lo⟩ := σ
  have I : pv_IC da th ck rc re rt mb ur eq rl st lo := I
  obtain ⟨hda, hth, hrc, hre, hrt, hmb, hur, heq, hrl, hst, hlo, hS, hG, hL, hR⟩ := id I
  have hbn : pf_bad da th ck 6 = pf_ng st 6 := (pi_list (mb0 := mb) hS rfl rfl).1
  have hsp : pf_good rt rc = pf_sp lo rc := pn_sp rc hL
  by_cases h : pf_good rt rc < pf_bad da th ck 6
  · have h2 : pf_sp lo rc < pf_ng st 6 := by omega
    exact ⟨-6, m_margin_1 l hth hrt hrc h, r_margin_1 l hst hlo hrc h2⟩
  · have h1 : pf_bad da th ck 6 ≤ pf_good rt rc := by omega
    have h2 : pf_ng st 6 ≤ pf_sp lo rc := by omega
    have hX := m_margin_2 (D := D) (a := a) (cI := cI) (cZ := cZ) (re := re) (ms := ms) (mb := mb) (ur := ur) (eq := eq) l hth hrt hrc h1
    rw [hsp, hbn] at hX
    refine ⟨_, hX, r_margin_2 l hst hlo hrc h2 ?_⟩
    show (_ = pf_sp lo rc - pf_ng st 6 ∧ _) ∨ (_ = 6 - pf_ng st 6 ∧ _)
    by_cases h3 : pf_sp lo rc - pf_ng st 6 < 6 - pf_ng st 6
    · rw [if_pos h3]; exact Or.inl ⟨rfl, h3⟩
    · rw [if_neg h3]; exact Or.inr ⟨rfl, Nat.le_of_not_lt h3⟩
/-- at the start they agree -/
def pv_0 : pv_T := (fun _ => 0, pf_pt (fun _ => 0) 6, pf_c0 6, 0, fun _ => 0, fun _ => 0, 0, fun _ => 0, fun _ => 0, fun _ => 0, fun _ => 0, fun _ => 0, fun _ => 0)
theorem pf_c0_at : ∀ n b, b < n → pf_c0 n b = pf_sum (fun _ => 0) b 8
  | 0, b, h => absurd h (by omega)
  | n + 1, b, h => by
    show upd (pf_c0 n) n (pf_sum (fun _ => 0) n 8) b = _
    by_cases e : b = n
    · rw [e]; exact pk_us
    · rw [pk_un e]; exact pf_c0_at n b (by omega)
theorem pv_I0 : pv_I pv_0 := by
  have z : ∀ B j : Nat, 0 < B → (fun _ => 0 : Nat → Nat) j < B := fun B j h => h
  refine ⟨fun j => z _ j (by decide), fun j => pf_pt_lt (fun j => z _ j (by decide)) 6 j, by decide, fun j => z _ j (by decide), fun j => z _ j (by decide), fun j => z _ j (by decide), fun j => z _ j (by decide), fun j => z _ j (by decide), fun j => z _ j (by decide), fun j => z _ j (by decide), fun j => z _ j (by decide), ?_, fun _ _ _ _ _ => rfl, fun r hr => absurd hr (Nat.not_lt_zero r), fun r hr => absurd hr (Nat.not_lt_zero r)⟩
  intro b hb
  refine (pf_st0' ?_ ?_).symm
  · show pf_pt (fun _ => 0) 6 b ≠ 0
    rw [pl_pt 6 b hb]; decide
  · show pf_sum (fun _ => 0) b 8 = pf_c0 6 b
    exact (pf_c0_at 6 b hb).symm
end
section
set_option maxRecDepth 100000
/-! THE CLAIM OUT OF ONE WALK OF THE LAW'S BODY. Your part is whole_start (and what it stands on); all else here is the same for every law, but numbers. -/
def R_law : String := "ParityArchiveLaw"
def lw_P (b : Addr) (xs : List Int32) (args : Array Value) (s : State) : Prop := args = #[.ref b] ∧ s.IntsAt b xs ∧ xs.length ≤ 256 ∧ (Jvm.Cond.and given_1 narrow_1).before args s = true
def lw_Q (_ : Array Value) (s : State) (o : Outcome) (t : State) : Prop := o = .returned (some (.int 1)) ∧ Framed s o t [] 600000 7290000
def lw_Z (below : List Frame) (a : Array Value) (s : State) : State → Prop := fun t => ∃ o, t.status = .running ∧ Ended t below o ∧ lw_Q a s o t
/-- the law's own end, with 1 on the stack, nothing written that was there before, its room as the claim has it -/
theorem lw_ret {p : Program} {l : Launch} {e : Env} {s : State} {m : MethodId} {below : List Frame} {meth : Method} {c : Code} {b : Nat} (hx : p.tables.exec = Jvm.exec) (hb : c.code = code) (hr : meth.sig.returnType = ret) (hlocks : meth.locks = false) {pc : Nat} {H : Heap} {ls : Array Slot} (hdg : decode code pc = .ok (.ireturn, 1)) : W p l e room_1 s m #[Value.ref b] below meth c H [] 600000 7290000 (lw_Z below #[Value.ref b] s) (F0 m pc ls [.int 1]) := by
  intro T hT X
  obtain ⟨fs, hret, hrun, hended, hW, hframe⟩ := X.leave (v := some (.int 1)) (hlocks := hlocks) (fun h => by rw [hr] at h; cases h)
  have hmeth' : T.vm.method? m = some meth := X.method'
  refine ⟨T.setFrames fs, ?_, .returned (some (.int 1)), hrun, hended, rfl, ⟨_, rfl⟩, hW, hframe⟩
  jvm_step X.here [X.here.top, hx, hb, hdg, hmeth', hr, ret, narrow_b1]
  (try refine ⟨rfl, ?_⟩); (try refine ⟨rfl, ?_⟩)
  first | (intro acts; rw [hret _ acts rfl rfl rfl]) | rw [hret _ _ rfl rfl rfl]
  exact Steps.refl _
/-- what holds at the law's entry: the machine, the code, the tables' words (any of lw_tbl by 'hts w (by decide +kernel)'), the script of L ints xs at the cell b, what the Statement gives of the start (any of its parts by flat_of_before) -/
def lw_At (p : Program) (s : State) (m : MethodId) (meth : Method) (c : Code) (b L : Nat) (xs : Nat → Int32) : Prop :=
  p.tables.exec = Jvm.exec ∧ c.code = code ∧ meth.sig.returnType = ret ∧ c.maxLocals = 4 ∧ s.vm.findClass R_law = some m.cls ∧ (∀ w ∈ lw_tbl, w.before #[Value.ref b] s = true) ∧ va_X b L xs s s.heap ∧ b < s.heap.size ∧ meth.locks = false ∧ (Jvm.Cond.and given_1 narrow_1).before #[Value.ref b] s = true
end
section
set_option maxRecDepth 100000
section PL
variable {p : Program} {l : Launch} {e : Env} {R : Room} {s : State} {m : MethodId} {args : Array Value} {below : List Frame} {meth : Method} {c : Code} {H : Heap} {locs : List Loc} {cells slots : Nat} {Q : State → Prop}
variable {cc : ByteArray} {pc : Nat} {ls : Array Slot} {rest : List Value} {D : va_G} {A0 : Nat → Prop} {H0 : Heap}
theorem pa_sld (hx : p.tables.exec = Jvm.exec) (hb : c.code = cc) {b L : Nat} {xs : Nat → Int32} (hX : va_X b L xs s H0) (hbl : b < H0.size) (hbA : ¬ A0 b) (hS : va_S A0 H0 H locs) (hL : L ≤ 256) {i : Nat} (hi : i < L) (hdg : decode cc pc = .ok (.iaload, 1))
    (kk : W p l e R s m args below meth c H locs cells slots Q (F0 m (pc + 1) ls (.int (xs i) :: rest))) : W p l e R s m args below meth c H locs cells slots Q (F0 m pc ls (.int (nI i) :: .ref b :: rest)) :=
  va_sld hx hb hX hbl hbA hS (vp_in_nI hi (by omega)) hdg (by rw [nI_clamp (by omega)]; exact kk)
/-- behind a constructor's call -/
theorem pa_callI {st0 : List Value} {h ci n mc ms : Nat} {fs : List Value} {w : (Nat → Nat) → ClassId → ClassId → va_W} {av : Array Value} (hr : va_Run p l e R s m args below meth c H locs cells slots mc ms (F0 m pc ls st0) rest (QcI D h H.size ci fs n w av) (va_A [(h, .inr (ci, fs))] H.size)) (hS : va_S A0 H0 H locs) (hh : A0 h) (hA : ∀ q, H0.size ≤ q → A0 q)
    (kk : ∀ (a : Nat → Nat) (cI cZ : ClassId) (H1 : Heap) (locs1 : List Loc), a 0 = h → pa_N n a → (∀ k, 0 < k → k < n → H.size ≤ a k) → va_P D clA (w a cI cZ) H1 → va_K D clA [(cI, .int), (cZ, .boolean)] s → va_S A0 H0 H1 locs1 → (∀ q : Nat, q < H.size → q ≠ h → H1[q]? = H[q]?) → W p l e R s m args below meth c H1 locs1 (cells + mc) (slots + ms) Q (F0 m (pc + 3) ls rest)) : W p l e R s m args below meth c H locs cells slots Q (F0 m pc ls st0) := by
  have hAx : ∀ q, va_A [(h, .inr (ci, fs))] H.size q → q = h ∨ H.size ≤ q := fun q hq => by
    rcases hq with ⟨k, e9, h9⟩ | h9
    · match k, h9 with
      | 0, h9 => cases h9; exact Or.inl rfl
      | k + 1, h9 => simp at h9
    · exact Or.inr h9
  have hAA : ∀ q, va_A [(h, .inr (ci, fs))] H.size q → A0 q := fun q hq => by
    rcases hAx q hq with h1 | h1
    · rw [h1]; exact hh
    · exact hA q (Nat.le_trans hS.1 h1)
  intro T hT X
  obtain ⟨v, st₀, t, T', L, h0, X', hL, e1, e2, ⟨hv, ⟨a, cI, cZ, g1, g2, g3, g4, g5⟩, hz, hk⟩, st⟩ := hr T hT X
  cases hv
  rw [h0] at hz hk
  obtain ⟨t2, a1, b1⟩ := kk a cI cZ T'.heap (locs ++ L) g1 g2 g3 (by rw [e1]; exact g4) (va_K.moved (by rw [← e2]; exact X'.warmed.alike.symm) g5)
    ⟨Nat.le_trans hS.1 (by rw [e1]; exact hz), fun q h1 h2 => by rw [e1, hk q (Nat.lt_of_lt_of_le h1 hS.1) (fun z => h2 (hAA q z))]; exact hS.2.1 q h1 h2, fun q hq => by
      rcases List.mem_append.mp hq with h | h
      · exact hS.2.2 q h
      · exact hAA _ (hL q h)⟩ (fun q h1 h2 => by rw [e1]; exact hk q h1 (fun z => by
        rcases hAx q z with h3 | h3
        · exact h2 h3
        · omega)) T' rfl X'
  exact ⟨t2, st t2 a1, b1⟩
end PL
theorem pv_keepM {D : va_G} {a b : Nat → Nat} {cI cZ : ClassId} {σ : pv_T} {H H1 : Heap} (hP : va_P D clA (pv_M b cI cZ σ) H) (hN : pa_N 4 b) (hd : ∀ k j, k < 11 → j < 4 → a k ≠ b j) (hk : ∀ q : Nat, q < H.size → ¬ pa_A 11 a q → H1[q]? = H[q]?) : va_P D clA (pv_M b cI cZ σ) H1 :=
  hP.kept (fun k q hq => hk q.1 (hP k q hq).lt (fun z => by
    obtain ⟨i, hi, e1⟩ := z
    obtain ⟨j, hj, e2⟩ := (WM_D hN).2 k q hq
    exact hd i j hi hj (by rw [← e1, ← e2])))
theorem pv_keepX {D : va_G} {a b : Nat → Nat} {cI cZ : ClassId} {σ : pv_T} {H H1 : Heap} (hP : va_P D clA (pv_X a cI cZ σ) H) (hN : pa_N 11 a) (hd : ∀ k j, k < 11 → j < 4 → a k ≠ b j) (hk : ∀ q : Nat, q < H.size → ¬ pa_A 4 b q → H1[q]? = H[q]?) : va_P D clA (pv_X a cI cZ σ) H1 :=
  hP.kept (fun k q hq => hk q.1 (hP k q hq).lt (fun z => by
    obtain ⟨i, hi, e1⟩ := z
    obtain ⟨j, hj, e2⟩ := (WX_D hN).2 k q hq
    exact hd j i hj hi (by rw [← e1, ← e2])))
set_option maxHeartbeats 4000000 in
/-- the law's loop: i ints are read, the two sides agree -/
theorem law_loop {p : Program} {l : Launch} {e : Env} {s : State} {m : MethodId} {below : List Frame} {meth : Method} {c : Code} {D : va_G} {a bb : Nat → Nat} {cI cZ : ClassId} {b L : Nat} {xs : Nat → Int32} (hL : L ≤ 256) (C0 : lw_At p s m meth c b L xs) (hNa : pa_N 11 a) (hNb : pa_N 4 bb) (hdis : ∀ k j, k < 11 → j < 4 → a k ≠ bb j) (hfa : ∀ k, k < 11 → s.heap.size ≤ a k) (hfb : ∀ k, k < 4 → s.heap.size ≤ bb k) (hK : va_K D clA [(cI, .int), (cZ, .boolean)] s) :
    ∀ (n i : Nat), L < i + n → i < 1000 → ∀ (σ : pv_T), pv_I σ → ∀ (H : Heap) (locs : List Loc) (ls : Array Slot), va_P D clA (pv_X a cI cZ σ) H → va_P D clA (pv_M bb cI cZ σ) H → va_S (fun q : Nat => s.heap.size ≤ q) s.heap H locs → lv_has ls 4 [(0, .ref b), (1, .ref (a 0)), (2, .ref (bb 0)), (3, .int (nI i))] → W p l e room_1 s m #[Value.ref b] below meth c H locs 15 766 (lw_Z below #[Value.ref b] s) (F0 m 18 ls []) := by
  obtain ⟨hx, hb, hr, hml, hown, hts0, hX, hbl, hlocks, hgv⟩ := C0
  have hts : ∀ w ∈ lw_all, w.before #[Value.ref b] s = true := fun w h => hts0 w (lw_all_tbl h)
  have hbA : ¬ (fun q : Nat => s.heap.size ≤ q) b := Nat.not_le.mpr hbl
  have hAa : ∀ q, pa_A 11 a q → (fun q : Nat => s.heap.size ≤ q) q := fun q h => by
    obtain ⟨k, hk, e⟩ := h
    rw [e]; exact hfa k hk
  have hAb : ∀ q, pa_A 4 bb q → (fun q : Nat => s.heap.size ≤ q) q := fun q h => by
    obtain ⟨k, hk, e⟩ := h
    rw [e]; exact hfb k hk
  have hdone : ∀ (i : Nat) (H : Heap) (locs : List Loc) (ls : Array Slot), L < i + 4 → i < 1000 → va_S (fun q : Nat => s.heap.size ≤ q) s.heap H locs → lv_has ls 4 [(0, .ref b), (1, .ref (a 0)), (2, .ref (bb 0)), (3, .int (nI i))] → W p l e room_1 s m #[Value.ref b] below meth c H locs 15 766 (lw_Z below #[Value.ref b] s) (F0 m 18 ls []) := by
    intro i H locs ls hi h1000 hS hl
    refine lv_iload_n hx hb dL_law_18 rfl (lv_at hl 3 rfl) ?_
    refine lv_aload_n hx hb dL_law_19 rfl (lv_at hl 0 rfl) ?_
    refine va_slen hx hb hX hbl hbA hS dL_law_20 ?_
    refine lv_iconst (v := nI 4) hx hb dL_law_21 (by decide) ?_
    refine lv_isub hx hb dL_law_22 ?_
    refine lv_icmp_gt (tgt := 361) hx hb dL_law_23 (by decide) (fun _ => ?_) (fun hc9 => absurd ?_ hc9)
    · refine lv_iconst (v := 1) hx hb dL_law_361 (by decide) ?_
      refine va_forget (fun q hq => hS.2.2 q hq) ?_
      refine W.widen (k := 600000) (n := 7290000) (by decide) (by decide) ?_
      exact lw_ret hx hb hr hlocks dL_law_362
    · show nI L - nI 4 < nI i
      by_cases h4 : 4 ≤ L
      · rw [pk_sub h4]
        exact nI_lt (by omega) (by omega)
      · exact Int32.lt_of_lt_of_le (pk_sneg (by omega) (by omega)) (nI_pos' (by omega))
  intro n
  induction n with
  | zero =>
    intro i h1 h2 σ I H locs ls hPX hPM hS hl
    exact hdone i H locs ls (by omega) h2 hS hl
  | succ n ih =>
    intro i h1 h2 σ I H locs ls hPX hPM hS hl
    by_cases h4 : i + 4 ≤ L
    · skip
      refine lv_iload_n hx hb dL_law_18 rfl (lv_at hl 3 rfl) ?_
      refine lv_aload_n hx hb dL_law_19 rfl (lv_at hl 0 rfl) ?_
      refine va_slen hx hb hX hbl hbA hS dL_law_20 ?_
      refine lv_iconst (v := nI 4) hx hb dL_law_21 (by decide) ?_
      refine lv_isub hx hb dL_law_22 ?_
      refine lv_icmp_gt (tgt := 361) hx hb dL_law_23 (by decide) (fun hc9 => absurd hc9 ?_) (fun _ => ?_)
      · show ¬ nI L - nI 4 < nI i
        rw [pk_sub (show 4 ≤ L by omega)]
        exact nI_nlt (by omega) (by omega)
      refine lv_aload_n hx hb dL_law_26 rfl (lv_at hl 0 rfl) ?_
      refine lv_iload_n hx hb dL_law_27 rfl (lv_at hl 3 rfl) ?_
      refine pa_sld hx hb hX hbl hbA hS hL (by omega) dL_law_28 ?_
      refine lv_bipush (v := nI 15) hx hb dL_law_29 (by decide) ?_
      refine lv_iand hx hb dL_law_31 ?_
      obtain ⟨j, hj, ej⟩ := pk_andE (xs i) (m := nI 15) 4 (by decide)
      refine pa_top ej ?_
      have hback : ∀ (τ : pv_T), pv_I τ → ∀ (H : Heap) (locs : List Loc), va_P D clA (pv_X a cI cZ τ) H → va_P D clA (pv_M bb cI cZ τ) H → va_S (fun q : Nat => s.heap.size ≤ q) s.heap H locs → W p l e room_1 s m #[Value.ref b] below meth c H locs 15 766 (lw_Z below #[Value.ref b] s) (F0 m 355 ls []) := by
        intro τ I H locs hPX hPM hS
        refine lv_iinc (v := nI (i + 4)) (lv' := [(3, .int (nI (i + 4))), (0, .ref b), (1, .ref (a 0)), (2, .ref (bb 0))]) hx hb dL_law_355 hl (k := 3) rfl (show nI i + Int32.ofInt 4 = nI (i + 4) from nI_add i 4) (by decide) rfl (fun ls hl => ?_)
        refine lv_goto (tgt := 18) hx hb dL_law_358 (by decide) ?_
        exact ih (i + 4) (by omega) (by omega) τ I H locs ls hPX hPM hS (lv_sub hl [1, 2, 3, 0] rfl)
      match j, hj with
      | 0, _ =>
        refine lv_tableIn (off := 60) (tgt := 92) hx hb dL_law_32 (by decide) (by decide) (by decide) (by decide) ?_
        obtain ⟨ans, τ, I2, hMX, hMM⟩ := j_write l (D := D) (cI := cI) (cZ := cZ) hNa hNb I (xs (i + 1)) (xs (i + 2)) (xs (i + 3))
        refine lv_aload_n hx hb dL_law_92 rfl (lv_at hl 1 rfl) ?_
        refine lv_aload_n hx hb dL_law_93 rfl (lv_at hl 0 rfl) ?_
        refine lv_iload_n hx hb dL_law_94 rfl (lv_at hl 3 rfl) ?_
        refine lv_iconst (v := nI 1) hx hb dL_law_95 (by decide) ?_
        refine na_add hx hb dL_law_96 ?_
        refine pa_sld hx hb hX hbl hbA hS hL (by omega) dL_law_97 ?_
        refine lv_aload_n hx hb dL_law_98 rfl (lv_at hl 0 rfl) ?_
        refine lv_iload_n hx hb dL_law_99 rfl (lv_at hl 3 rfl) ?_
        refine lv_iconst (v := nI 2) hx hb dL_law_100 (by decide) ?_
        refine na_add hx hb dL_law_101 ?_
        refine pa_sld hx hb hX hbl hbA hS hL (by omega) dL_law_102 ?_
        refine lv_aload_n hx hb dL_law_103 rfl (lv_at hl 0 rfl) ?_
        refine lv_iload_n hx hb dL_law_104 rfl (lv_at hl 3 rfl) ?_
        refine lv_iconst (v := nI 3) hx hb dL_law_105 (by decide) ?_
        refine na_add hx hb dL_law_106 ?_
        refine pa_sld hx hb hX hbl hbA hS hL (by omega) dL_law_107 ?_
        refine pa_callM (ci := 0) (n := 3) (As := [.int (xs (i + 1)), .int (xs (i + 2)), .int (xs (i + 3))]) (rest := []) ⟨hx, hb, hml, hown, hts⟩ hMX hK hPX hS hAa rfl rfl (lw_V q72 q73 q74 q18 q75) rfl rfl (by decide +kernel) ⟨by decide, by decide⟩ rfl hl.1 rfl (Nat.le_of_ble_eq_true rfl) dL_law_108 ⟨by decide, by decide⟩ (fun H locs hPX hS hkp => ?_)
        have hPM := pv_keepM hPM hNb hdis hkp
        refine lv_aload_n hx hb dL_law_111 rfl (lv_at hl 2 rfl) ?_
        refine lv_aload_n hx hb dL_law_112 rfl (lv_at hl 0 rfl) ?_
        refine lv_iload_n hx hb dL_law_113 rfl (lv_at hl 3 rfl) ?_
        refine lv_iconst (v := nI 1) hx hb dL_law_114 (by decide) ?_
        refine na_add hx hb dL_law_115 ?_
        refine pa_sld hx hb hX hbl hbA hS hL (by omega) dL_law_116 ?_
        refine lv_aload_n hx hb dL_law_117 rfl (lv_at hl 0 rfl) ?_
        refine lv_iload_n hx hb dL_law_118 rfl (lv_at hl 3 rfl) ?_
        refine lv_iconst (v := nI 2) hx hb dL_law_119 (by decide) ?_
        refine na_add hx hb dL_law_120 ?_
        refine pa_sld hx hb hX hbl hbA hS hL (by omega) dL_law_121 ?_
        refine lv_aload_n hx hb dL_law_122 rfl (lv_at hl 0 rfl) ?_
        refine lv_iload_n hx hb dL_law_123 rfl (lv_at hl 3 rfl) ?_
        refine lv_iconst (v := nI 3) hx hb dL_law_124 (by decide) ?_
        refine na_add hx hb dL_law_125 ?_
        refine pa_sld hx hb hX hbl hbA hS hL (by omega) dL_law_126 ?_
        refine pa_callM (ci := 1) (n := 3) (As := [.int (xs (i + 1)), .int (xs (i + 2)), .int (xs (i + 3))]) (rest := [.int ans]) ⟨hx, hb, hml, hown, hts⟩ hMM hK hPM hS hAb rfl rfl (lw_V q197 q198 q199 q19 q200) rfl rfl (by decide +kernel) ⟨by decide, by decide⟩ rfl hl.1 rfl (Nat.le_of_ble_eq_true rfl) dL_law_127 ⟨by decide, by decide⟩ (fun H locs hPM hS hkp => ?_)
        have hPX := pv_keepX hPX hNa hdis hkp
        refine lv_icmp_eq (tgt := 355) hx hb dL_law_130 (by decide) (fun _ => ?_) (fun hc9 => absurd rfl hc9)
        exact hback τ I2 H locs hPX hPM hS
      | 1, _ =>
        refine lv_tableIn (off := 103) (tgt := 135) hx hb dL_law_32 (by decide) (by decide) (by decide) (by decide) ?_
        obtain ⟨ans, τ, I2, hMX, hMM⟩ := j_protect l (D := D) (cI := cI) (cZ := cZ) hNa hNb I (xs (i + 1))
        refine lv_aload_n hx hb dL_law_135 rfl (lv_at hl 1 rfl) ?_
        refine lv_aload_n hx hb dL_law_136 rfl (lv_at hl 0 rfl) ?_
        refine lv_iload_n hx hb dL_law_137 rfl (lv_at hl 3 rfl) ?_
        refine lv_iconst (v := nI 1) hx hb dL_law_138 (by decide) ?_
        refine na_add hx hb dL_law_139 ?_
        refine pa_sld hx hb hX hbl hbA hS hL (by omega) dL_law_140 ?_
        refine pa_callM (ci := 0) (n := 1) (As := [.int (xs (i + 1))]) (rest := []) ⟨hx, hb, hml, hown, hts⟩ hMX hK hPX hS hAa rfl rfl (lw_V q98 q99 q100 q18 q101) rfl rfl (by decide +kernel) ⟨by decide, by decide⟩ rfl hl.1 rfl (Nat.le_of_ble_eq_true rfl) dL_law_141 ⟨by decide, by decide⟩ (fun H locs hPX hS hkp => ?_)
        have hPM := pv_keepM hPM hNb hdis hkp
        refine lv_aload_n hx hb dL_law_144 rfl (lv_at hl 2 rfl) ?_
        refine lv_aload_n hx hb dL_law_145 rfl (lv_at hl 0 rfl) ?_
        refine lv_iload_n hx hb dL_law_146 rfl (lv_at hl 3 rfl) ?_
        refine lv_iconst (v := nI 1) hx hb dL_law_147 (by decide) ?_
        refine na_add hx hb dL_law_148 ?_
        refine pa_sld hx hb hX hbl hbA hS hL (by omega) dL_law_149 ?_
        refine pa_callM (ci := 1) (n := 1) (As := [.int (xs (i + 1))]) (rest := [.int ans]) ⟨hx, hb, hml, hown, hts⟩ hMM hK hPM hS hAb rfl rfl (lw_V q205 q206 q207 q19 q208) rfl rfl (by decide +kernel) ⟨by decide, by decide⟩ rfl hl.1 rfl (Nat.le_of_ble_eq_true rfl) dL_law_150 ⟨by decide, by decide⟩ (fun H locs hPM hS hkp => ?_)
        have hPX := pv_keepX hPX hNa hdis hkp
        refine lv_icmp_eq (tgt := 355) hx hb dL_law_153 (by decide) (fun _ => ?_) (fun hc9 => absurd rfl hc9)
        exact hback τ I2 H locs hPX hPM hS
      | 2, _ =>
        refine lv_tableIn (off := 126) (tgt := 158) hx hb dL_law_32 (by decide) (by decide) (by decide) (by decide) ?_
        obtain ⟨ans, τ, I2, hMX, hMM⟩ := j_lose l (D := D) (cI := cI) (cZ := cZ) hNa hNb I (xs (i + 1))
        refine lv_aload_n hx hb dL_law_158 rfl (lv_at hl 1 rfl) ?_
        refine lv_aload_n hx hb dL_law_159 rfl (lv_at hl 0 rfl) ?_
        refine lv_iload_n hx hb dL_law_160 rfl (lv_at hl 3 rfl) ?_
        refine lv_iconst (v := nI 1) hx hb dL_law_161 (by decide) ?_
        refine na_add hx hb dL_law_162 ?_
        refine pa_sld hx hb hX hbl hbA hS hL (by omega) dL_law_163 ?_
        refine pa_callM (ci := 0) (n := 1) (As := [.int (xs (i + 1))]) (rest := []) ⟨hx, hb, hml, hown, hts⟩ hMX hK hPX hS hAa rfl rfl (lw_V q110 q111 q112 q18 q113) rfl rfl (by decide +kernel) ⟨by decide, by decide⟩ rfl hl.1 rfl (Nat.le_of_ble_eq_true rfl) dL_law_164 ⟨by decide, by decide⟩ (fun H locs hPX hS hkp => ?_)
        have hPM := pv_keepM hPM hNb hdis hkp
        refine lv_aload_n hx hb dL_law_167 rfl (lv_at hl 2 rfl) ?_
        refine lv_aload_n hx hb dL_law_168 rfl (lv_at hl 0 rfl) ?_
        refine lv_iload_n hx hb dL_law_169 rfl (lv_at hl 3 rfl) ?_
        refine lv_iconst (v := nI 1) hx hb dL_law_170 (by decide) ?_
        refine na_add hx hb dL_law_171 ?_
        refine pa_sld hx hb hX hbl hbA hS hL (by omega) dL_law_172 ?_
        refine pa_callM (ci := 1) (n := 1) (As := [.int (xs (i + 1))]) (rest := [.int ans]) ⟨hx, hb, hml, hown, hts⟩ hMM hK hPM hS hAb rfl rfl (lw_V q213 q214 q215 q19 q216) rfl rfl (by decide +kernel) ⟨by decide, by decide⟩ rfl hl.1 rfl (Nat.le_of_ble_eq_true rfl) dL_law_173 ⟨by decide, by decide⟩ (fun H locs hPM hS hkp => ?_)
        have hPX := pv_keepX hPX hNa hdis hkp
        refine lv_icmp_eq (tgt := 355) hx hb dL_law_176 (by decide) (fun _ => ?_) (fun hc9 => absurd rfl hc9)
        exact hback τ I2 H locs hPX hPM hS
      | 3, _ =>
        refine lv_tableIn (off := 149) (tgt := 181) hx hb dL_law_32 (by decide) (by decide) (by decide) (by decide) ?_
        obtain ⟨ans, τ, I2, hMX, hMM⟩ := j_loseRecovery l (D := D) (cI := cI) (cZ := cZ) hNa hNb I (xs (i + 1))
        refine lv_aload_n hx hb dL_law_181 rfl (lv_at hl 1 rfl) ?_
        refine lv_aload_n hx hb dL_law_182 rfl (lv_at hl 0 rfl) ?_
        refine lv_iload_n hx hb dL_law_183 rfl (lv_at hl 3 rfl) ?_
        refine lv_iconst (v := nI 1) hx hb dL_law_184 (by decide) ?_
        refine na_add hx hb dL_law_185 ?_
        refine pa_sld hx hb hX hbl hbA hS hL (by omega) dL_law_186 ?_
        refine pa_callM (ci := 0) (n := 1) (As := [.int (xs (i + 1))]) (rest := []) ⟨hx, hb, hml, hown, hts⟩ hMX hK hPX hS hAa rfl rfl (lw_V q114 q115 q116 q18 q117) rfl rfl (by decide +kernel) ⟨by decide, by decide⟩ rfl hl.1 rfl (Nat.le_of_ble_eq_true rfl) dL_law_187 ⟨by decide, by decide⟩ (fun H locs hPX hS hkp => ?_)
        have hPM := pv_keepM hPM hNb hdis hkp
        refine lv_aload_n hx hb dL_law_190 rfl (lv_at hl 2 rfl) ?_
        refine lv_aload_n hx hb dL_law_191 rfl (lv_at hl 0 rfl) ?_
        refine lv_iload_n hx hb dL_law_192 rfl (lv_at hl 3 rfl) ?_
        refine lv_iconst (v := nI 1) hx hb dL_law_193 (by decide) ?_
        refine na_add hx hb dL_law_194 ?_
        refine pa_sld hx hb hX hbl hbA hS hL (by omega) dL_law_195 ?_
        refine pa_callM (ci := 1) (n := 1) (As := [.int (xs (i + 1))]) (rest := [.int ans]) ⟨hx, hb, hml, hown, hts⟩ hMM hK hPM hS hAb rfl rfl (lw_V q217 q218 q219 q19 q220) rfl rfl (by decide +kernel) ⟨by decide, by decide⟩ rfl hl.1 rfl (Nat.le_of_ble_eq_true rfl) dL_law_196 ⟨by decide, by decide⟩ (fun H locs hPM hS hkp => ?_)
        have hPX := pv_keepX hPX hNa hdis hkp
        refine lv_icmp_eq (tgt := 355) hx hb dL_law_199 (by decide) (fun _ => ?_) (fun hc9 => absurd rfl hc9)
        exact hback τ I2 H locs hPX hPM hS
      | 4, _ =>
        refine lv_tableIn (off := 172) (tgt := 204) hx hb dL_law_32 (by decide) (by decide) (by decide) (by decide) ?_
        obtain ⟨ans, τ, I2, hMX, hMM⟩ := j_spoil l (D := D) (cI := cI) (cZ := cZ) hNa hNb I (xs (i + 1)) (xs (i + 2)) (xs (i + 3))
        refine lv_aload_n hx hb dL_law_204 rfl (lv_at hl 1 rfl) ?_
        refine lv_aload_n hx hb dL_law_205 rfl (lv_at hl 0 rfl) ?_
        refine lv_iload_n hx hb dL_law_206 rfl (lv_at hl 3 rfl) ?_
        refine lv_iconst (v := nI 1) hx hb dL_law_207 (by decide) ?_
        refine na_add hx hb dL_law_208 ?_
        refine pa_sld hx hb hX hbl hbA hS hL (by omega) dL_law_209 ?_
        refine lv_aload_n hx hb dL_law_210 rfl (lv_at hl 0 rfl) ?_
        refine lv_iload_n hx hb dL_law_211 rfl (lv_at hl 3 rfl) ?_
        refine lv_iconst (v := nI 2) hx hb dL_law_212 (by decide) ?_
        refine na_add hx hb dL_law_213 ?_
        refine pa_sld hx hb hX hbl hbA hS hL (by omega) dL_law_214 ?_
        refine lv_aload_n hx hb dL_law_215 rfl (lv_at hl 0 rfl) ?_
        refine lv_iload_n hx hb dL_law_216 rfl (lv_at hl 3 rfl) ?_
        refine lv_iconst (v := nI 3) hx hb dL_law_217 (by decide) ?_
        refine na_add hx hb dL_law_218 ?_
        refine pa_sld hx hb hX hbl hbA hS hL (by omega) dL_law_219 ?_
        refine pa_callM (ci := 0) (n := 3) (As := [.int (xs (i + 1)), .int (xs (i + 2)), .int (xs (i + 3))]) (rest := []) ⟨hx, hb, hml, hown, hts⟩ hMX hK hPX hS hAa rfl rfl (lw_V q118 q119 q120 q18 q121) rfl rfl (by decide +kernel) ⟨by decide, by decide⟩ rfl hl.1 rfl (Nat.le_of_ble_eq_true rfl) dL_law_220 ⟨by decide, by decide⟩ (fun H locs hPX hS hkp => ?_)
        have hPM := pv_keepM hPM hNb hdis hkp
        refine lv_aload_n hx hb dL_law_223 rfl (lv_at hl 2 rfl) ?_
        refine lv_aload_n hx hb dL_law_224 rfl (lv_at hl 0 rfl) ?_
        refine lv_iload_n hx hb dL_law_225 rfl (lv_at hl 3 rfl) ?_
        refine lv_iconst (v := nI 1) hx hb dL_law_226 (by decide) ?_
        refine na_add hx hb dL_law_227 ?_
        refine pa_sld hx hb hX hbl hbA hS hL (by omega) dL_law_228 ?_
        refine lv_aload_n hx hb dL_law_229 rfl (lv_at hl 0 rfl) ?_
        refine lv_iload_n hx hb dL_law_230 rfl (lv_at hl 3 rfl) ?_
        refine lv_iconst (v := nI 2) hx hb dL_law_231 (by decide) ?_
        refine na_add hx hb dL_law_232 ?_
        refine pa_sld hx hb hX hbl hbA hS hL (by omega) dL_law_233 ?_
        refine lv_aload_n hx hb dL_law_234 rfl (lv_at hl 0 rfl) ?_
        refine lv_iload_n hx hb dL_law_235 rfl (lv_at hl 3 rfl) ?_
        refine lv_iconst (v := nI 3) hx hb dL_law_236 (by decide) ?_
        refine na_add hx hb dL_law_237 ?_
        refine pa_sld hx hb hX hbl hbA hS hL (by omega) dL_law_238 ?_
        refine pa_callM (ci := 1) (n := 3) (As := [.int (xs (i + 1)), .int (xs (i + 2)), .int (xs (i + 3))]) (rest := [.int ans]) ⟨hx, hb, hml, hown, hts⟩ hMM hK hPM hS hAb rfl rfl (lw_V q221 q222 q223 q19 q224) rfl rfl (by decide +kernel) ⟨by decide, by decide⟩ rfl hl.1 rfl (Nat.le_of_ble_eq_true rfl) dL_law_239 ⟨by decide, by decide⟩ (fun H locs hPM hS hkp => ?_)
        have hPX := pv_keepX hPX hNa hdis hkp
        refine lv_icmp_eq (tgt := 355) hx hb dL_law_242 (by decide) (fun _ => ?_) (fun hc9 => absurd rfl hc9)
        exact hback τ I2 H locs hPX hPM hS
      | 5, _ =>
        refine lv_tableIn (off := 215) (tgt := 247) hx hb dL_law_32 (by decide) (by decide) (by decide) (by decide) ?_
        obtain ⟨ans, τ, I2, hMX, hMM⟩ := j_repair l (D := D) (cI := cI) (cZ := cZ) hNa hNb I 
        refine lv_aload_n hx hb dL_law_247 rfl (lv_at hl 1 rfl) ?_
        refine pa_callM (ci := 0) (n := 0) (As := []) (rest := []) ⟨hx, hb, hml, hown, hts⟩ hMX hK hPX hS hAa rfl rfl (lw_V q122 q123 q124 q18 q125) rfl rfl (by decide +kernel) ⟨by decide, by decide⟩ rfl hl.1 rfl (Nat.le_of_ble_eq_true rfl) dL_law_248 ⟨by decide, by decide⟩ (fun H locs hPX hS hkp => ?_)
        have hPM := pv_keepM hPM hNb hdis hkp
        refine lv_aload_n hx hb dL_law_251 rfl (lv_at hl 2 rfl) ?_
        refine pa_callM (ci := 1) (n := 0) (As := []) (rest := [.int ans]) ⟨hx, hb, hml, hown, hts⟩ hMM hK hPM hS hAb rfl rfl (lw_V q225 q226 q227 q19 q228) rfl rfl (by decide +kernel) ⟨by decide, by decide⟩ rfl hl.1 rfl (Nat.le_of_ble_eq_true rfl) dL_law_252 ⟨by decide, by decide⟩ (fun H locs hPM hS hkp => ?_)
        have hPX := pv_keepX hPX hNa hdis hkp
        refine lv_icmp_eq (tgt := 355) hx hb dL_law_255 (by decide) (fun _ => ?_) (fun hc9 => absurd rfl hc9)
        exact hback τ I2 H locs hPX hPM hS
      | 6, _ =>
        refine lv_tableIn (off := 228) (tgt := 260) hx hb dL_law_32 (by decide) (by decide) (by decide) (by decide) ?_
        obtain ⟨ans, τ, I2, hMX, hMM⟩ := j_giveUp l (D := D) (cI := cI) (cZ := cZ) hNa hNb I 
        refine lv_aload_n hx hb dL_law_260 rfl (lv_at hl 1 rfl) ?_
        refine pa_callM (ci := 0) (n := 0) (As := []) (rest := []) ⟨hx, hb, hml, hown, hts⟩ hMX hK hPX hS hAa rfl rfl (lw_V q158 q159 q160 q18 q161) rfl rfl (by decide +kernel) ⟨by decide, by decide⟩ rfl hl.1 rfl (Nat.le_of_ble_eq_true rfl) dL_law_261 ⟨by decide, by decide⟩ (fun H locs hPX hS hkp => ?_)
        have hPM := pv_keepM hPM hNb hdis hkp
        refine lv_aload_n hx hb dL_law_264 rfl (lv_at hl 2 rfl) ?_
        refine pa_callM (ci := 1) (n := 0) (As := []) (rest := [.int ans]) ⟨hx, hb, hml, hown, hts⟩ hMM hK hPM hS hAb rfl rfl (lw_V q233 q234 q235 q19 q236) rfl rfl (by decide +kernel) ⟨by decide, by decide⟩ rfl hl.1 rfl (Nat.le_of_ble_eq_true rfl) dL_law_265 ⟨by decide, by decide⟩ (fun H locs hPM hS hkp => ?_)
        have hPX := pv_keepX hPX hNa hdis hkp
        refine lv_icmp_eq (tgt := 355) hx hb dL_law_268 (by decide) (fun _ => ?_) (fun hc9 => absurd rfl hc9)
        exact hback τ I2 H locs hPX hPM hS
      | 7, _ =>
        refine lv_tableIn (off := 241) (tgt := 273) hx hb dL_law_32 (by decide) (by decide) (by decide) (by decide) ?_
        obtain ⟨ans, hMX, hMM⟩ := j_read l (D := D) (a := a) (b := bb) (cI := cI) (cZ := cZ) I (xs (i + 1)) (xs (i + 2))
        refine lv_aload_n hx hb dL_law_273 rfl (lv_at hl 1 rfl) ?_
        refine lv_aload_n hx hb dL_law_274 rfl (lv_at hl 0 rfl) ?_
        refine lv_iload_n hx hb dL_law_275 rfl (lv_at hl 3 rfl) ?_
        refine lv_iconst (v := nI 1) hx hb dL_law_276 (by decide) ?_
        refine na_add hx hb dL_law_277 ?_
        refine pa_sld hx hb hX hbl hbA hS hL (by omega) dL_law_278 ?_
        refine lv_aload_n hx hb dL_law_279 rfl (lv_at hl 0 rfl) ?_
        refine lv_iload_n hx hb dL_law_280 rfl (lv_at hl 3 rfl) ?_
        refine lv_iconst (v := nI 2) hx hb dL_law_281 (by decide) ?_
        refine na_add hx hb dL_law_282 ?_
        refine pa_sld hx hb hX hbl hbA hS hL (by omega) dL_law_283 ?_
        refine pa_callR (ci := 0) (n := 2) (As := [.int (xs (i + 1)), .int (xs (i + 2))]) (rest := []) ⟨hx, hb, hml, hown, hts⟩ hMX hK hPX rfl rfl (lw_V q162 q163 q164 q18 q165) rfl rfl (by decide +kernel) ⟨by decide, by decide⟩ rfl hl.1 rfl (Nat.le_of_ble_eq_true rfl) dL_law_284 ⟨by decide, by decide⟩ ?_
        refine lv_aload_n hx hb dL_law_287 rfl (lv_at hl 2 rfl) ?_
        refine lv_aload_n hx hb dL_law_288 rfl (lv_at hl 0 rfl) ?_
        refine lv_iload_n hx hb dL_law_289 rfl (lv_at hl 3 rfl) ?_
        refine lv_iconst (v := nI 1) hx hb dL_law_290 (by decide) ?_
        refine na_add hx hb dL_law_291 ?_
        refine pa_sld hx hb hX hbl hbA hS hL (by omega) dL_law_292 ?_
        refine lv_aload_n hx hb dL_law_293 rfl (lv_at hl 0 rfl) ?_
        refine lv_iload_n hx hb dL_law_294 rfl (lv_at hl 3 rfl) ?_
        refine lv_iconst (v := nI 2) hx hb dL_law_295 (by decide) ?_
        refine na_add hx hb dL_law_296 ?_
        refine pa_sld hx hb hX hbl hbA hS hL (by omega) dL_law_297 ?_
        refine pa_callR (ci := 1) (n := 2) (As := [.int (xs (i + 1)), .int (xs (i + 2))]) (rest := [.int ans]) ⟨hx, hb, hml, hown, hts⟩ hMM hK hPM rfl rfl (lw_V q237 q238 q239 q19 q240) rfl rfl (by decide +kernel) ⟨by decide, by decide⟩ rfl hl.1 rfl (Nat.le_of_ble_eq_true rfl) dL_law_298 ⟨by decide, by decide⟩ ?_
        refine lv_icmp_eq (tgt := 355) hx hb dL_law_301 (by decide) (fun _ => ?_) (fun hc9 => absurd rfl hc9)
        exact hback σ I H locs hPX hPM hS
      | 8, _ =>
        refine lv_tableIn (off := 274) (tgt := 306) hx hb dL_law_32 (by decide) (by decide) (by decide) (by decide) ?_
        obtain ⟨ans, hMX, hMM⟩ := j_state l (D := D) (a := a) (b := bb) (cI := cI) (cZ := cZ) I (xs (i + 1))
        refine lv_aload_n hx hb dL_law_306 rfl (lv_at hl 1 rfl) ?_
        refine lv_aload_n hx hb dL_law_307 rfl (lv_at hl 0 rfl) ?_
        refine lv_iload_n hx hb dL_law_308 rfl (lv_at hl 3 rfl) ?_
        refine lv_iconst (v := nI 1) hx hb dL_law_309 (by decide) ?_
        refine na_add hx hb dL_law_310 ?_
        refine pa_sld hx hb hX hbl hbA hS hL (by omega) dL_law_311 ?_
        refine pa_callR (ci := 0) (n := 1) (As := [.int (xs (i + 1))]) (rest := []) ⟨hx, hb, hml, hown, hts⟩ hMX hK hPX rfl rfl (lw_V q166 q167 q168 q18 q169) rfl rfl (by decide +kernel) ⟨by decide, by decide⟩ rfl hl.1 rfl (Nat.le_of_ble_eq_true rfl) dL_law_312 ⟨by decide, by decide⟩ ?_
        refine lv_aload_n hx hb dL_law_315 rfl (lv_at hl 2 rfl) ?_
        refine lv_aload_n hx hb dL_law_316 rfl (lv_at hl 0 rfl) ?_
        refine lv_iload_n hx hb dL_law_317 rfl (lv_at hl 3 rfl) ?_
        refine lv_iconst (v := nI 1) hx hb dL_law_318 (by decide) ?_
        refine na_add hx hb dL_law_319 ?_
        refine pa_sld hx hb hX hbl hbA hS hL (by omega) dL_law_320 ?_
        refine pa_callR (ci := 1) (n := 1) (As := [.int (xs (i + 1))]) (rest := [.int ans]) ⟨hx, hb, hml, hown, hts⟩ hMM hK hPM rfl rfl (lw_V q241 q242 q243 q19 q244) rfl rfl (by decide +kernel) ⟨by decide, by decide⟩ rfl hl.1 rfl (Nat.le_of_ble_eq_true rfl) dL_law_321 ⟨by decide, by decide⟩ ?_
        refine lv_icmp_eq (tgt := 355) hx hb dL_law_324 (by decide) (fun _ => ?_) (fun hc9 => absurd rfl hc9)
        exact hback σ I H locs hPX hPM hS
      | 9, _ =>
        refine lv_tableIn (off := 297) (tgt := 329) hx hb dL_law_32 (by decide) (by decide) (by decide) (by decide) ?_
        obtain ⟨ans, hMX, hMM⟩ := j_spare l (D := D) (a := a) (b := bb) (cI := cI) (cZ := cZ) I 
        refine lv_aload_n hx hb dL_law_329 rfl (lv_at hl 1 rfl) ?_
        refine pa_callR (ci := 0) (n := 0) (As := []) (rest := []) ⟨hx, hb, hml, hown, hts⟩ hMX hK hPX rfl rfl (lw_V q170 q171 q172 q18 q173) rfl rfl (by decide +kernel) ⟨by decide, by decide⟩ rfl hl.1 rfl (Nat.le_of_ble_eq_true rfl) dL_law_330 ⟨by decide, by decide⟩ ?_
        refine lv_aload_n hx hb dL_law_333 rfl (lv_at hl 2 rfl) ?_
        refine pa_callR (ci := 1) (n := 0) (As := []) (rest := [.int ans]) ⟨hx, hb, hml, hown, hts⟩ hMM hK hPM rfl rfl (lw_V q245 q230 q231 q19 q232) rfl rfl (by decide +kernel) ⟨by decide, by decide⟩ rfl hl.1 rfl (Nat.le_of_ble_eq_true rfl) dL_law_334 ⟨by decide, by decide⟩ ?_
        refine lv_icmp_eq (tgt := 355) hx hb dL_law_337 (by decide) (fun _ => ?_) (fun hc9 => absurd rfl hc9)
        exact hback σ I H locs hPX hPM hS
      | 10, _ =>
        refine lv_tableIn (off := 310) (tgt := 342) hx hb dL_law_32 (by decide) (by decide) (by decide) (by decide) ?_
        obtain ⟨ans, hMX, hMM⟩ := j_margin l (D := D) (a := a) (b := bb) (cI := cI) (cZ := cZ) I 
        refine lv_aload_n hx hb dL_law_342 rfl (lv_at hl 1 rfl) ?_
        refine pa_callR (ci := 0) (n := 0) (As := []) (rest := []) ⟨hx, hb, hml, hown, hts⟩ hMX hK hPX rfl rfl (lw_V q174 q175 q176 q18 q177) rfl rfl (by decide +kernel) ⟨by decide, by decide⟩ rfl hl.1 rfl (Nat.le_of_ble_eq_true rfl) dL_law_343 ⟨by decide, by decide⟩ ?_
        refine lv_aload_n hx hb dL_law_346 rfl (lv_at hl 2 rfl) ?_
        refine pa_callR (ci := 1) (n := 0) (As := []) (rest := [.int ans]) ⟨hx, hb, hml, hown, hts⟩ hMM hK hPM rfl rfl (lw_V q246 q247 q248 q19 q249) rfl rfl (by decide +kernel) ⟨by decide, by decide⟩ rfl hl.1 rfl (Nat.le_of_ble_eq_true rfl) dL_law_347 ⟨by decide, by decide⟩ ?_
        refine lv_icmp_eq (tgt := 355) hx hb dL_law_350 (by decide) (fun _ => ?_) (fun hc9 => absurd rfl hc9)
        exact hback σ I H locs hPX hPM hS
      | j + 11, hj =>
        have hj : j + 11 < 16 := hj
        refine lv_tableOut (tgt := 355) hx hb dL_law_32 (Or.inr (by rw [nI_toInt (by omega)]; omega)) (by decide) ?_
        exact hback σ I H locs hPX hPM hS
    · exact hdone i H locs ls (by omega) h2 hS hl
set_option maxHeartbeats 4000000 in
/-- the law, from its entry -/
theorem whole_start {p : Program} {e : Env} {s : State} {m : MethodId} {below : List Frame} {meth : Method} {c : Code} (l : Launch) {b L : Nat} {xs : Nat → Int32} (hL : L ≤ 256) (C0 : lw_At p s m meth c b L xs) : W p l e room_1 s m #[Value.ref b] below meth c s.heap [] 0 0 (lw_Z below #[Value.ref b] s) (entryFrame m ([Value.ref b] : List Value).toArray 4) := by
  obtain ⟨hx, hb, hr, hml, hown, hts0, hX, hbl, hlocks, hgv⟩ := id C0
  have hts : ∀ w ∈ lw_all, w.before #[Value.ref b] s = true := fun w h => hts0 w (lw_all_tbl h)
  have hA : ∀ q : Nat, s.heap.size ≤ q → (fun q : Nat => s.heap.size ≤ q) q := fun _ h => h
  obtain ⟨c0, iS0, hKn0⟩ := u_known (C := RX0) (T := TX0) (N := 12) (n := 12) hts in_X0 (hts _ q21)
  obtain ⟨c1, iS1, hKn1⟩ := u_known (C := RX1) (T := TX1) (N := 4) (n := 4) hts in_X1 (hts _ q179)
  obtain ⟨dC, dI, hKc⟩ : ∃ (dC : Nat → ClassId) (dI : Nat → Nat → Nat), ∀ (k : Nat) (q : vw_C), clA[k]? = some q → u_Kn s q.1 q.2.1 q.2.2 (dC k) (dI k) := by
    refine ⟨fun k => if k = 0 then c0 else c1, fun k => if k = 0 then iS0 else iS1, ?_⟩
    intro k q hq
    match k, hq with
    | 0, hq => cases hq; exact hKn0
    | 1, hq => cases hq; exact hKn1
    | k + 2, hq => simp [clA] at hq
  have hS : va_S (fun q : Nat => s.heap.size ≤ q) s.heap s.heap [] := va_S.rf
  have hK : va_K (dC, dI) clA [] s := ⟨hKc, fun k q h => by simp at h⟩
  have hP : va_P (dC, dI) clA [] s.heap := fun k q h => by simp at h
  have hD : va_D (fun q : Nat => s.heap.size ≤ q) [] := ⟨fun i j p q h => by simp at h, fun k q h => by simp at h⟩
  have hl := lv_entry ([.ref b]) (n := 4) (Nat.le_of_ble_eq_true rfl)
  rw [lg_entry_eq]
  generalize (lg_sl ([.ref b]) ++ List.replicate (4 - (lg_sl ([.ref b])).length) Slot.unset).toArray = ls at hl ⊢
  have hl : lv_has ls 4 [(0, .ref b)] := hl
  refine va_new (ci := 0) (fs := fs0X) (C := RX0) (T := TX0) (N := 12) hx hb hts in_X0 tyX0 tyX0_ok hown (hts _ q20) (hts _ q21) (hts _ q18) hK hP hD hS hA rfl (fun j hj => by rcases (show j = 0 ∨ j = 1 ∨ j = 2 ∨ j = 3 ∨ j = 4 ∨ j = 5 ∨ j = 6 ∨ j = 7 ∨ j = 8 ∨ j = 9 ∨ j = 10 ∨ j = 11 by omega) with rfl | rfl | rfl | rfl | rfl | rfl | rfl | rfl | rfl | rfl | rfl | rfl <;> rfl) (Nat.le_of_ble_eq_true rfl) (Nat.le_of_ble_eq_true rfl) dL_law_0 (fun h H hP hD hS => ?_)
  have hP : va_P (dC, dI) clA [(h, .inr (0, fs0X))] H := hP
  have hh : s.heap.size ≤ h := hD.2 0 _ rfl
  refine W.widen (k := 1) (n := 12) (by decide) (by decide) ?_
  refine lv_dup hx hb dL_law_3 rfl ?_
  refine pa_callI (D := (dC, dI)) (h := h) (va_runI (As := []) (rest := [.ref h]) ⟨hx, hb, hml, hown, hts⟩ (m_init l (D := (dC, dI)) (h := h) (sz := H.size)) (cwI 0 hts (lw_meth q24) rfl rfl rfl (hts _ q18) (hts _ q22) (hts _ q23) rfl (by decide +kernel) ⟨by decide, by decide⟩) ⟨PcI_blind, fun U hU hW => ⟨rfl, by rw [hU], by rw [hU]; exact hP, va_K.moved hW.alike hK⟩⟩ rfl rfl hl.1 rfl (lv_room (Nat.le_of_ble_eq_true rfl)) dL_law_4 ⟨by decide, by decide⟩) hS hh hA (fun a cI cZ H1 locs ha0 hNa hnew hPX hK hS _ => ?_)
  have hPX : va_P (dC, dI) clA (pv_X a cI cZ pv_0) H1 := hPX
  have hsz : s.heap.size ≤ H.size := Nat.le_of_lt (Nat.lt_of_le_of_lt hh (hP 0 _ rfl).lt)
  have hfa : ∀ k, k < 11 → s.heap.size ≤ a k := fun k hk => by
    by_cases e : k = 0
    · rw [e, ha0]; exact hh
    · exact Nat.le_trans hsz (hnew k (by omega) hk)
  refine W.widen (k := 11) (n := 704) (by decide) (by decide) ?_
  refine lv_astore_n (lv' := [(1, .ref h), (0, .ref b)]) hx hb dL_law_7 rfl hl (by decide) rfl (fun ls hl => ?_)
  have hDX : va_D (fun q : Nat => s.heap.size ≤ q) (pv_X a cI cZ pv_0) := WX_DA hNa hfa
  refine va_new (ci := 1) (fs := fs0M) (C := RX1) (T := TX1) (N := 4) hx hb hts in_X1 tyX1 tyX1_ok hown (hts _ q178) (hts _ q179) (hts _ q19) hK hPX hDX hS hA rfl (fun j hj => by rcases (show j = 0 ∨ j = 1 ∨ j = 2 ∨ j = 3 by omega) with rfl | rfl | rfl | rfl <;> rfl) (Nat.le_of_ble_eq_true rfl) (Nat.le_of_ble_eq_true rfl) dL_law_8 (fun g H2 hP2 hD2 hS => ?_)
  have hPX : va_P (dC, dI) clA (pv_X a cI cZ pv_0) H2 := hP2.sub [0, 1, 2, 3, 4, 5, 6, 7, 8, 9, 10] rfl
  have hPg : va_P (dC, dI) clA [(g, .inr (1, fs0M))] H2 := hP2.sub [11] rfl
  have hga : ∀ k, k < 11 → a k ≠ g ∧ a k < H2.size := fun k hk => by
    have key : ∀ k, k < 11 → ∃ q, (pv_X a cI cZ pv_0)[k]? = some q ∧ q.1 = a k := by
      intro k hk
      rcases (show k = 0 ∨ k = 1 ∨ k = 2 ∨ k = 3 ∨ k = 4 ∨ k = 5 ∨ k = 6 ∨ k = 7 ∨ k = 8 ∨ k = 9 ∨ k = 10 by omega) with rfl | rfl | rfl | rfl | rfl | rfl | rfl | rfl | rfl | rfl | rfl <;> exact ⟨_, rfl, rfl⟩
    obtain ⟨q, h1, h2⟩ := key k hk
    have h3 : (pv_X a cI cZ pv_0 ++ [(g, .inr (1, fs0M))])[k]? = some q := by
      rw [List.getElem?_append_left (List.getElem?_eq_some_iff.mp h1).1]; exact h1
    refine ⟨fun z => ?_, by rw [← h2]; exact (hPX k q h1).lt⟩
    exact absurd (hD2.1 k 11 q (g, .inr (1, fs0M)) h3 rfl (by rw [h2, z])) (by omega)
  have hg : s.heap.size ≤ g := hD2.2 11 _ rfl
  refine W.widen (k := 12) (n := 708) (by decide) (by decide) ?_
  refine lv_dup hx hb dL_law_11 rfl ?_
  refine pa_callI (D := (dC, dI)) (h := g) (va_runI (As := []) (rest := [.ref g]) ⟨hx, hb, hml, hown, hts⟩ (r_init l (D := (dC, dI)) (h := g) (sz := H2.size)) (cwI 0 hts (lw_meth q182) rfl rfl rfl (hts _ q19) (hts _ q180) (hts _ q181) rfl (by decide +kernel) ⟨by decide, by decide⟩) ⟨PcI_blind, fun U hU hW => ⟨rfl, by rw [hU], by rw [hU]; exact hPg, va_K.moved hW.alike (hK.sub [] rfl)⟩⟩ rfl rfl hl.1 rfl (lv_room (Nat.le_of_ble_eq_true rfl)) dL_law_12 ⟨by decide, by decide⟩) hS hg hA (fun bb cI2 cZ2 H3 locs hb0 hNb hnew2 hPM hK2 hS hkp => ?_)
  have hKK := hK.app hK2
  have eI : cI2 = cI := pa_ci hKK (i := 2) (j := 0) rfl rfl
  have eZ : cZ2 = cZ := pa_cz hKK (i := 3) (j := 1) rfl rfl
  subst eI
  subst eZ
  have hPM : va_P (dC, dI) clA (pv_M bb cI2 cZ2 pv_0) H3 := hPM
  have hPX : va_P (dC, dI) clA (pv_X a cI2 cZ2 pv_0) H3 := hPX.kept (fun k q hq => by
    obtain ⟨j, hj, e1⟩ := (WX_D hNa).2 k q hq
    refine hkp q.1 (hPX k q hq).lt ?_
    rw [e1]
    exact (hga j hj).1)
  have hsz2 : s.heap.size ≤ H2.size := Nat.le_of_lt (Nat.lt_of_le_of_lt hg (hPg 0 _ rfl).lt)
  have hfb : ∀ k, k < 4 → s.heap.size ≤ bb k := fun k hk => by
    by_cases e : k = 0
    · rw [e, hb0]; exact hg
    · exact Nat.le_trans hsz2 (hnew2 k (by omega) hk)
  have hdis : ∀ k j, k < 11 → j < 4 → a k ≠ bb j := fun k j hk hj z => by
    by_cases e : j = 0
    · rw [e, hb0] at z; exact (hga k hk).1 z
    · have h1 := hnew2 j (by omega) hj
      have h2 := (hga k hk).2
      omega
  refine W.widen (k := 15) (n := 766) (by decide) (by decide) ?_
  refine lv_astore_n (lv' := [(2, .ref g), (1, .ref h), (0, .ref b)]) hx hb dL_law_15 rfl hl (by decide) rfl (fun ls hl => ?_)
  refine lv_iconst (v := nI 0) hx hb dL_law_16 (by decide) ?_
  refine lv_istore_n (lv' := [(3, .int (nI 0)), (2, .ref g), (1, .ref h), (0, .ref b)]) hx hb dL_law_17 rfl hl (by decide) rfl (fun ls hl => ?_)
  have hl : lv_has ls 4 [(0, .ref b), (1, .ref (a 0)), (2, .ref (bb 0)), (3, .int (nI 0))] := by
    rw [ha0, hb0]
    exact lv_sub hl [3, 2, 1, 0] rfl
  exact law_loop hL C0 hNa hNb hdis hfa hfb hK (L + 1) 0 (by omega) (by omega) pv_0 pv_I0 _ _ ls hPX hPM hS hl
end
section
set_option maxRecDepth 100000
set_option maxHeartbeats 4000000 in
theorem lw_walk (l : Launch) (b : Addr) (xs : List Int32) : MetFree l x (headSpec (Jvm.Cond.code x code maxLocals ret :: tables_1) room_1) (lw_P b xs) (fun _ _ _ _ _ => True) lw_Q := by
  refine MetFree.of_bodyS (code := code) (maxLocals := maxLocals) (ret := ret) (by decide) ?_ ?_
  · intro args s m h hn
    obtain ⟨meth, c, h1, h2, h3, h4, h5, h6, -, -⟩ := Cond.code_spec hn (atoms_spec (ws := Jvm.Cond.code x code maxLocals ret :: tables_1) h _ List.mem_cons_self)
    exact ⟨meth, c, h1, h2, h3, h4, h5, h6⟩
  · intro p e s m args below meth c s₁ B hml0 hP _
    obtain ⟨rfl, hx, hbd, hgv⟩ := hP
    obtain ⟨scr, harrAt, hlist, hof, hsmall⟩ := hx
    obtain ⟨hcb, hkn, -, -⟩ := State.arrayAt?_spec harrAt
    have hown : s.vm.findClass R_law = some m.cls := findClass_of_methodNamed B.named
    have hts0 : ∀ c ∈ (Jvm.Cond.code x code maxLocals ret :: tables_1), c.before #[Value.ref b] s = true := atoms_spec (ws := Jvm.Cond.code x code maxLocals ret :: tables_1) B.pre
    have hts : ∀ w ∈ lw_tbl, w.before #[Value.ref b] s = true := k2_hts_sels lw_privs (fun w hw => hts0 w (List.mem_cons_of_mem _ hw)) lw_privs_ok
    have hml : c.maxLocals = 4 := B.maxLocals_eq (hts0 _ List.mem_cons_self)
    have X₀ : Stand p l e room_1 s m #[Value.ref b] below meth c s₁ [] 0 0 := Stand.of_body B
    have hh0 : s₁.heap = s.heap := by rw [B.state]; rfl
    have hsz : scr.slots.size = xs.length := by rw [← Array.length_toList, hlist, List.length_map]
    have hval : ∀ j : Nat, j < xs.length → scr.slots[j]? = some (.int (xs.getD j 0)) := fun j hj => by
      rw [← Array.getElem?_toList, hlist]
      simp [hj]
    have hbl : b < s.heap.size := (Array.getElem?_eq_some_iff.mp hcb).1
    have hX : va_X b xs.length (fun j => xs.getD j 0) s s.heap := ⟨scr, hcb, hof, hkn, hsz, hval⟩
    have K : W p l e room_1 s m #[Value.ref b] below meth c s₁.heap [] 0 0 (lw_Z below #[Value.ref b] s) (entryFrame m ([Value.ref b] : List Value).toArray 4) := by
      rw [hh0]
      exact whole_start l hbd ⟨B.exec, B.bytes, B.returns, hml, hown, hts, hX, hbl, B.notSynchronized, hgv⟩
    obtain ⟨t, a1, o, b1, b2, b3⟩ := K s₁ rfl X₀
    exact ⟨t, o, a1, b1, b2, b3⟩
theorem lw_pre_spec {args : Array Value} {s : State} (h : (Jvm.Cond.and given_1 narrow_1).before args s = true) (hr : rest_1_c.before args s = true) : ∃ (b : Addr) (xs : List Int32), lw_P b xs args s := by
  have hs := flat_of_before _ h
  have hq := flat_of_before _ hr
  have hc : (Cond.count 1).before args s = true := hs _ (by decide +kernel)
  have harr : (Cond.arrayOf (.arg 0) .int).before args s = true := hs _ (by decide +kernel)
  have hle : (Cond.le (.length (.arg 0)) (.int 256)).before args s = true := hs _ (by decide +kernel)
  have hlen : (Cond.isInt (.length (.arg 0))).before args s = true := hq _ (by decide +kernel)
  have hall : (Cond.all (.arg 0) (.isInt (.elem (.arg 0) (.index 0)))).before args s = true := hq _ (by decide +kernel)
  obtain ⟨b, xs, hb, hx⟩ := State.ints_of_pre rfl harr hlen hall
  have hsm : xs.length < 2 ^ 31 := hx.choose_spec.2.2.2
  have hev : (Term.length (.arg 0)).eval args s none [] s = some (.int xs.length.toInt32) := hx.length_eval hb
  have hv := Cond.le_ints hev (show (Term.int 256).eval args s none [] s = some (.int 256) from rfl)
  have hd : xs.length.toInt32 ≤ 256 := by
    simpa [Cond.before, Cond.holds, hv] using hle
  have hN : xs.length ≤ 256 := (Int32.ofNat_le_ofNat hsm (by decide)).mp (show Int32.ofNat xs.length ≤ Int32.ofNat 256 from hd)
  exact ⟨b, xs, Cond.one_arg hc (show args[0]? = some (.ref b) from hb), hx, hN, h⟩
theorem lw_comes (l : Launch) : Comes l x (Jvm.Cond.code x code maxLocals ret :: tables_1) room_1 (fun tb e args s => Calls_1 tb e args s ∧ rest_1 tb e args s ∧ Pre_1 tb e args s)
    (fun _ _ args s o t => lw_Q args s o t) := by
  intro p e ha hc hk s m args below hf hfit hheap happ hpre
  obtain ⟨b, xs, hP⟩ := lw_pre_spec hpre.2.2 hpre.2.1
  obtain ⟨k, o, h1, h2, h3, hQ⟩ := lw_walk l b xs p e ha hc hk s m args below hf ((Spec.applies_iff_loose hf).mp happ).1 hP trivial
  exact ⟨k, o, h1, h2, h3, hQ⟩
theorem lw_frame {s t : State} {o : Outcome} {args : Array Value} (h : Framed s o t [] 600000 7290000) :
    Framed s o t (fieldLocs frame_1_writes args s ++ arrayLocs frame_1_arrays args s ++ staticLocs frame_1_statics s) 600000 7290000 := h
theorem lw_limb (L : Cond) (hL : ∀ (args : Array Value) (s t : State), L.after args s (.returned (some (.int 1))) t = true) :
    ArmFor flags0 classFile x code maxLocals ret World_1 tables_1 room_1 Calls_1 rest_1 Pre_1
      (fun tb e a s o t => postC L tb e a s o t ∧ Framed s o t (fieldLocs frame_1_writes a s ++ arrayLocs frame_1_arrays a s ++ staticLocs frame_1_statics s) 600000 7290000) := by
  intro l _ _ _ p e ha hc hk s m args below hf hfit hheap happ hpre
  obtain ⟨k, o, h1, h2, h3, rfl, hF⟩ := lw_comes l p e ha hc hk s m args below hf hfit hheap happ hpre
  exact ⟨k, _, h1, h2, h3, hL args s _, lw_frame hF⟩
theorem i_vc : Claimed_1_1 ∧ Claimed_1_2 := ⟨lw_limb limb_1_1 (fun args s t => by simp [limb_1_1, Cond.after, Cond.holds, Cond.value]), lw_limb limb_1_2 (fun args s t => Cond.after_iff.mpr (by
  first | (rw [show limb_1_2 = Cond.eq .result (.int 1) from rfl, Cond.eq_ints (x := 1) (y := 1) rfl rfl]; simp; done) | (simp [limb_1_2, Cond.value, Term.eval]; done)))⟩
end
